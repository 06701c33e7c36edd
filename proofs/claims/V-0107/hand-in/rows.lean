section
/-! base: small rows (pk_*: of the kit's rows to paste), sums over lists, layout -/
theorem pk_us {f : Nat → Int32} {k : Nat} {x : Int32} : upd f k x k = x := if_pos rfl
theorem pk_un {f : Nat → Int32} {k j : Nat} {x : Int32} (h : j ≠ k) : upd f k x j = f j := if_neg h
theorem pk_sub {a b : Nat} (h : b ≤ a) : nI a - nI b = nI (a - b) := by
  obtain ⟨c, rfl⟩ : ∃ c, a = c + b := ⟨a - b, by omega⟩
  rw [← nI_add, Int32.add_sub_cancel, Nat.add_sub_cancel]
theorem pk_m1 (n : Nat) : nI (n + 1) + (-1) = nI n := by
  rw [← nI_1, Int32.add_assoc, show (1 : Int32) + (-1) = 0 from rfl, Int32.add_zero]
theorem pk_mul (a b : Nat) : nI a * nI b = nI (a * b) := (Int32.ofNat_mul a b).symm
theorem pk_ix (x : Int32) {n : Nat} (hn : n < 2 ^ 31) : x < 0 ∨ nI n ≤ x ∨ ∃ j : Nat, j < n ∧ x = nI j := by
  by_cases h : x < 0
  · exact Or.inl h
  · obtain ⟨j, hj, rfl⟩ := nI_of h
    by_cases h2 : j < n
    · exact Or.inr (Or.inr ⟨j, h2, rfl⟩)
    · exact Or.inr (Or.inl (nI_le (by omega) hj))
theorem pk_le {x y : Int32} {A B : Prop} (a b : Nat) (f : a ≤ b → A) (g : b < a → B) (hx : x = nI a := by rfl) (hy : y = nI b := by rfl) (ha : a < 2 ^ 31 := by omega) (hb : b < 2 ^ 31 := by omega) : (x ≤ y → A) ∧ (¬ x ≤ y → B) := by
  subst hx hy
  rw [nI_leI ha hb]
  exact ⟨f, fun z => g (by omega)⟩
theorem pk_lt {x y : Int32} {A B : Prop} (a b : Nat) (f : a < b → A) (g : b ≤ a → B) (hx : x = nI a := by rfl) (hy : y = nI b := by rfl) (ha : a < 2 ^ 31 := by omega) (hb : b < 2 ^ 31 := by omega) : (x < y → A) ∧ (¬ x < y → B) := by
  subst hx hy
  rw [nI_ltI ha hb]
  exact ⟨f, fun z => g (by omega)⟩
theorem pk_eq {x y : Int32} {A B : Prop} (a b : Nat) (f : a = b → A) (g : a ≠ b → B) (hx : x = nI a := by rfl) (hy : y = nI b := by rfl) (ha : a < 2 ^ 31 := by omega) (hb : b < 2 ^ 31 := by omega) : (x = y → A) ∧ (¬ x = y → B) := by
  subst hx hy
  rw [nI_eq ha hb]
  exact ⟨f, g⟩
theorem pk_in {x : Int32} (n N : Nat) (h : n < N) (hx : x = nI n := by rfl) (hN : N < 2 ^ 31 := by omega) : vp_in x N := by
  subst hx
  exact vp_in_nI h hN
theorem pk_cl {x : Int32} (n : Nat) (hx : x = nI n := by rfl) (h : n < 2 ^ 31 := by omega) : x.toNatClampNeg = n := by
  subst hx
  exact nI_clamp h
/-! classical booleans and choices -/
noncomputable def gh_bl (p : Prop) : Bool := @decide p (Classical.propDecidable p)
theorem gh_bl_iff {p : Prop} : gh_bl p = true ↔ p := by
  unfold gh_bl
  exact @decide_eq_true_iff p (Classical.propDecidable p)
noncomputable def gh_ite (p : Prop) (a b : Nat) : Nat := @ite Nat p (Classical.propDecidable p) a b
theorem gh_ite_t {p : Prop} {a b : Nat} (h : p) : gh_ite p a b = a := @if_pos p (Classical.propDecidable p) h Nat a b
theorem gh_ite_f {p : Prop} {a b : Nat} (h : ¬ p) : gh_ite p a b = b := @if_neg p (Classical.propDecidable p) h Nat a b
/-! functions of naturals with one value changed -/
def gh_u {α : Type} (f : Nat → α) (k : Nat) (v : α) : Nat → α := fun j => if j = k then v else f j
theorem gh_us {α : Type} {f : Nat → α} {k : Nat} {v : α} : gh_u f k v k = v := if_pos rfl
theorem gh_un {α : Type} {f : Nat → α} {k j : Nat} {v : α} (h : j ≠ k) : gh_u f k v j = f j := if_neg h
/-! sums over lists -/
def gh_S (f : Nat → Nat) : List Nat → Nat
  | [] => 0
  | x :: l => f x + gh_S f l
theorem gh_S_nil {f : Nat → Nat} : gh_S f [] = 0 := rfl
theorem gh_S_cons {f : Nat → Nat} {x : Nat} {l : List Nat} : gh_S f (x :: l) = f x + gh_S f l := rfl
theorem gh_S_app {f : Nat → Nat} {a b : List Nat} : gh_S f (a ++ b) = gh_S f a + gh_S f b := by
  induction a with
  | nil => simp [gh_S]
  | cons x a ih => simp only [List.cons_append, gh_S, ih]; omega
theorem gh_S_perm {f : Nat → Nat} {a b : List Nat} (h : a.Perm b) : gh_S f a = gh_S f b := by
  induction h with
  | nil => rfl
  | cons x _ ih => simp only [gh_S, ih]
  | swap x y l => simp only [gh_S]; omega
  | trans _ _ h1 h2 => exact h1.trans h2
theorem gh_S_le {f g : Nat → Nat} : ∀ (l m : List Nat), l.Nodup → (∀ x, x ∈ l → x ∈ m ∧ f x ≤ g x) → gh_S f l ≤ gh_S g m := by
  intro l
  induction l with
  | nil => intro m _ _; exact Nat.zero_le _
  | cons x l ih =>
    intro m hn h
    have hx := h x (List.mem_cons_self ..)
    rw [gh_S_perm (List.perm_cons_erase hx.1)]
    rw [List.nodup_cons] at hn
    have := ih (m.erase x) hn.2 (fun y hy => ⟨(List.mem_erase_of_ne (fun (e : y = x) => hn.1 (e ▸ hy))).mpr (h y (List.mem_cons_of_mem _ hy)).1, (h y (List.mem_cons_of_mem _ hy)).2⟩)
    have h2 := hx.2
    simp only [gh_S]
    omega
theorem gh_S_congr {f g : Nat → Nat} {l : List Nat} (h : ∀ x, x ∈ l → f x = g x) : gh_S f l = gh_S g l := by
  induction l with
  | nil => rfl
  | cons x l ih =>
    simp only [gh_S]
    rw [h x (List.mem_cons_self ..), ih (fun y hy => h y (List.mem_cons_of_mem _ hy))]
theorem gh_S_mono {f g : Nat → Nat} {l : List Nat} (h : ∀ x, x ∈ l → f x ≤ g x) : gh_S f l ≤ gh_S g l := by
  induction l with
  | nil => exact Nat.le_refl _
  | cons x l ih =>
    simp only [gh_S]
    have a := h x (List.mem_cons_self ..)
    have b := ih (fun y hy => h y (List.mem_cons_of_mem _ hy))
    omega
theorem gh_S_add {f g : Nat → Nat} {l : List Nat} : gh_S (fun x => f x + g x) l = gh_S f l + gh_S g l := by
  induction l with
  | nil => rfl
  | cons x l ih => simp only [gh_S, ih]; omega
theorem gh_S_1 {l : List Nat} : gh_S (fun _ => 1) l = l.length := by
  induction l with
  | nil => rfl
  | cons x l ih => simp only [gh_S, ih, List.length_cons]; omega
theorem gh_S_flt {f : Nat → Nat} {p : Nat → Bool} {l : List Nat} : gh_S f (l.filter p) = gh_S (fun x => if p x = true then f x else 0) l := by
  induction l with
  | nil => rfl
  | cons x l ih =>
    by_cases h : p x = true
    · rw [List.filter_cons_of_pos h, gh_S_cons, gh_S_cons, ih, if_pos h]
    · rw [List.filter_cons_of_neg h, gh_S_cons, ih, if_neg h]; omega
theorem gh_S_pos {f : Nat → Nat} {l : List Nat} {x : Nat} (h : x ∈ l) : f x ≤ gh_S f l := by
  induction l with
  | nil => cases h
  | cons y l ih =>
    simp only [gh_S]
    rcases List.mem_cons.mp h with e | e
    · subst e; omega
    · have := ih e; omega
/-- two lists without repeats, a function each: equal where both have a member, zero where only the second has -/
theorem gh_S_eq {f g : Nat → Nat} {l m : List Nat} (hl : l.Nodup) (hm : m.Nodup) (h : ∀ x, x ∈ l → x ∈ m ∧ f x = g x) (h' : ∀ x, x ∈ m → x ∉ l → g x = 0) : gh_S f l = gh_S g m := by
  apply Nat.le_antisymm
  · exact gh_S_le l m hl (fun x hx => ⟨(h x hx).1, Nat.le_of_eq (h x hx).2⟩)
  · have e : gh_S g m = gh_S g (m.filter (fun x => gh_bl (x ∈ l))) := by
      rw [gh_S_flt]
      apply gh_S_congr
      intro x hx
      by_cases z : x ∈ l
      · rw [if_pos (gh_bl_iff.mpr z)]
      · rw [if_neg (fun c => z (gh_bl_iff.mp c))]
        exact h' x hx z
    rw [e]
    apply gh_S_le _ _ (List.Nodup.sublist (List.filter_sublist ..) hm)
    intro x hx
    have z : x ∈ l := gh_bl_iff.mp (List.mem_filter.mp hx).2
    exact ⟨z, Nat.le_of_eq (h x z).2.symm⟩
theorem gh_len_le {l m : List Nat} (hl : l.Nodup) (h : ∀ x, x ∈ l → x ∈ m) : l.length ≤ m.length := by
  rw [← gh_S_1, ← gh_S_1]
  exact gh_S_le l m hl (fun x hx => ⟨h x hx, Nat.le_refl _⟩)
theorem gh_len_eq {l m : List Nat} (hl : l.Nodup) (hm : m.Nodup) (h : ∀ x, x ∈ l ↔ x ∈ m) : l.length = m.length :=
  Nat.le_antisymm (gh_len_le hl (fun x hx => (h x).mp hx)) (gh_len_le hm (fun x hx => (h x).mpr hx))
/-- sums over the numbers below n -/
def gh_N (f : Nat → Nat) : Nat → Nat
  | 0 => 0
  | n + 1 => gh_N f n + f n
theorem gh_N_congr {f g : Nat → Nat} {n : Nat} (h : ∀ i, i < n → f i = g i) : gh_N f n = gh_N g n := by
  induction n with
  | zero => rfl
  | succ n ih => simp only [gh_N]; rw [ih (fun i hi => h i (by omega)), h n (by omega)]
theorem gh_N_le {f g : Nat → Nat} {n : Nat} (h : ∀ i, i < n → f i ≤ g i) : gh_N f n ≤ gh_N g n := by
  induction n with
  | zero => exact Nat.le_refl _
  | succ n ih =>
    simp only [gh_N]
    have a := ih (fun i hi => h i (by omega))
    have b := h n (by omega)
    omega
theorem gh_N_1 {n : Nat} : gh_N (fun _ => 1) n = n := by
  induction n with
  | zero => rfl
  | succ n ih => simp only [gh_N, ih]
theorem gh_N_part {f : Nat → Nat} {n m : Nat} (h : m ≤ n) : gh_N f m ≤ gh_N f n := by
  induction n with
  | zero => have : m = 0 := by omega
            subst this; exact Nat.le_refl _
  | succ n ih =>
    by_cases z : m = n + 1
    · subst z; exact Nat.le_refl _
    · have := ih (by omega)
      simp only [gh_N]; omega
theorem gh_N_S {f : Nat → Nat} {n : Nat} : gh_N f n = gh_S f (List.range n) := by
  induction n with
  | zero => rfl
  | succ n ih => rw [List.range_succ, gh_S_app, ← ih]; simp only [gh_N, gh_S]; omega
/-! layout: the objects of a list lie one behind another from b on -/
def gh_lay (w A : Nat → Nat) : Nat → List Nat → Prop
  | _, [] => True
  | b, x :: l => A x = b ∧ gh_lay w A (b + w x) l
theorem gh_lay_app {w A : Nat → Nat} : ∀ (l m : List Nat) (b : Nat), gh_lay w A b (l ++ m) ↔ gh_lay w A b l ∧ gh_lay w A (b + gh_S w l) m := by
  intro l
  induction l with
  | nil => intro m b; simp [gh_lay, gh_S]
  | cons x l ih =>
    intro m b
    simp only [List.cons_append, gh_lay, gh_S, ih, Nat.add_assoc, and_assoc]
theorem gh_lay_congr {w A A' : Nat → Nat} : ∀ (l : List Nat) (b : Nat), (∀ x, x ∈ l → A' x = A x) → gh_lay w A b l → gh_lay w A' b l := by
  intro l
  induction l with
  | nil => intro b _ _; trivial
  | cons x l ih =>
    intro b h hl
    exact ⟨(h x (List.mem_cons_self ..)).trans hl.1, ih _ (fun y hy => h y (List.mem_cons_of_mem _ hy)) hl.2⟩
theorem gh_lay_in {w A : Nat → Nat} : ∀ (l : List Nat) (b x : Nat), gh_lay w A b l → x ∈ l → b ≤ A x ∧ A x + w x ≤ b + gh_S w l := by
  intro l
  induction l with
  | nil => intro b x _ hx; cases hx
  | cons y l ih =>
    intro b x hl hx
    obtain ⟨h1, h2⟩ := hl
    simp only [gh_S]
    rcases List.mem_cons.mp hx with e | e
    · subst e; omega
    · have := ih _ x h2 e; omega
theorem gh_lay_dis {w A : Nat → Nat} : ∀ (l : List Nat) (b x y : Nat), gh_lay w A b l → x ∈ l → y ∈ l → x ≠ y → A x + w x ≤ A y ∨ A y + w y ≤ A x := by
  intro l
  induction l with
  | nil => intro b x y _ hx; cases hx
  | cons z l ih =>
    intro b x y hl hx hy hne
    obtain ⟨h1, h2⟩ := hl
    rcases List.mem_cons.mp hx with e | e
    · rcases List.mem_cons.mp hy with e' | e'
      · exact absurd (e.trans e'.symm) hne
      · subst e; have := gh_lay_in _ _ y h2 e'; omega
    · rcases List.mem_cons.mp hy with e' | e'
      · subst e'; have := gh_lay_in _ _ x h2 e; omega
      · exact ih _ x y h2 e e' hne
/-! descriptors -/
theorem gh_d3 : ∀ r, r < 4 → ∀ d, d < 4 → ∀ a, a < 4 → nI (r + 4 * d + 16 * a) &&& 3 = nI r := by decide +kernel
theorem gh_d2 : ∀ r, r < 4 → ∀ d, d < 4 → ∀ a, a < 4 → (nI (r + 4 * d + 16 * a) >>> ((2 : Int32) &&& 31)) &&& 3 = nI d := by decide +kernel
theorem gh_d4 : ∀ r, r < 4 → ∀ d, d < 4 → ∀ a, a < 4 → nI (r + 4 * d + 16 * a) >>> ((4 : Int32) &&& 31) = nI a := by decide +kernel
theorem gh_d15 : ∀ r, r < 4 → ∀ d, d < 4 → ∀ a, a < 4 → nI (r + 4 * d + 16 * a) &&& 15 = nI (r + 4 * d) := by decide +kernel
end
section
/-! the abstract heap, by serials: ids, ag (age), nr, nd (numbers of fields), rf (fields' serials), da (data), ro (roots) -/
def gh_w (nr nd : Nat → Nat) (x : Nat) : Nat := 2 + nr x + nd x
def gh_sp (P a : Nat) : Nat := if a = 0 then 0 else if a < P then 1 else 2
theorem gh_sp0 {P a : Nat} : gh_sp P a = 0 ↔ a = 0 := by
  unfold gh_sp
  by_cases h : a = 0
  · simp [h]
  · by_cases h2 : a < P
    · simp [h, h2]
    · simp [h, h2]
theorem gh_sp1 {P a : Nat} : gh_sp P a = 1 ↔ (a ≠ 0 ∧ a < P) := by
  unfold gh_sp
  by_cases h : a = 0
  · simp [h]
  · by_cases h2 : a < P
    · simp [h, h2]
    · simp [h, h2]
theorem gh_sp2 {P a : Nat} : gh_sp P a = 2 ↔ (a ≠ 0 ∧ P ≤ a) := by
  unfold gh_sp
  by_cases h : a = 0
  · simp [h]
  · by_cases h2 : a < P
    · simp [h, h2]
    · simp [h, h2]; omega
theorem gh_sp3 {P a : Nat} : gh_sp P a < 3 := by
  unfold gh_sp
  by_cases h : a = 0
  · simp [h]
  · by_cases h2 : a < P
    · simp [h, h2]
    · simp [h, h2]
/-- weight of the objects of age a -/
def gh_as (ag w : Nat → Nat) (ids : List Nat) (a : Nat) : Nat := gh_S (fun x => if ag x = a then w x else 0) ids
/-- weight of the members of age a in R -/
noncomputable def gh_mw (R : Nat → Prop) (ag w : Nat → Nat) (ids : List Nat) (a : Nat) : Nat := gh_S (fun x => if gh_bl (R x) = true ∧ ag x = a then w x else 0) ids
/-- weight of those that are not in R -/
noncomputable def gh_dw (R : Nat → Prop) (w : Nat → Nat) (ids : List Nat) : Nat := gh_S (fun x => if gh_bl (R x) = true then 0 else w x) ids
def gh_up (P : Nat) (ag : Nat → Nat) : Nat → Nat := fun x => if ag x < P then ag x + 1 else ag x
noncomputable def gh_kp (R : Nat → Prop) (ids : List Nat) : List Nat := ids.filter (fun x => gh_bl (R x))
theorem gh_kp_mem {R : Nat → Prop} {ids : List Nat} {x : Nat} : x ∈ gh_kp R ids ↔ x ∈ ids ∧ R x := by
  unfold gh_kp
  rw [List.mem_filter, gh_bl_iff]
theorem gh_kp_nodup {R : Nat → Prop} {ids : List Nat} (h : ids.Nodup) : (gh_kp R ids).Nodup := List.Nodup.sublist (List.filter_sublist ..) h
theorem gh_kp_dw {R : Nat → Prop} {w : Nat → Nat} {ids : List Nat} : gh_S w ids = gh_S w (gh_kp R ids) + gh_dw R w ids := by
  unfold gh_kp gh_dw
  rw [gh_S_flt, ← gh_S_add]
  apply gh_S_congr
  intro x _
  by_cases h : gh_bl (R x) = true
  · simp [h]
  · simp [h]
def gh_WF (N T P K : Nat) (ids : List Nat) (ag nr nd : Nat → Nat) (rf : Nat → Nat → Nat) (ro : Nat → Nat) (la : Nat) : Prop :=
  (8 ≤ N ∧ N ≤ 32 ∧ 8 ≤ T ∧ T ≤ 64 ∧ 1 ≤ P ∧ P ≤ 3 ∧ 2 ≤ K ∧ K ≤ 8 ∧ la ≤ 1000000) ∧
  ids.Nodup ∧
  (∀ x, x ∈ ids → 1 ≤ x ∧ x ≤ la ∧ nr x ≤ 3 ∧ nd x ≤ 2 ∧ ag x ≤ P) ∧
  (∀ x i, x ∈ ids → i < nr x → rf x i = 0 ∨ rf x i ∈ ids) ∧
  (∀ r, ro r = 0 ∨ ro r ∈ ids) ∧ (∀ r, K ≤ r → ro r = 0) ∧
  (∀ a, a < P → gh_as ag (gh_w nr nd) ids a ≤ N) ∧ gh_as ag (gh_w nr nd) ids P ≤ T
/-! least sets -/
def gh_rch (el sd : Nat → Prop) (nr : Nat → Nat) (rf : Nat → Nat → Nat) (x : Nat) : Prop :=
  ∀ S : Nat → Prop, (∀ y, sd y → el y → S y) → (∀ y i, S y → i < nr y → el (rf y i) → S (rf y i)) → S x
theorem gh_rch_sd {el sd : Nat → Prop} {nr : Nat → Nat} {rf : Nat → Nat → Nat} {y : Nat} (h : sd y) (e : el y) : gh_rch el sd nr rf y := fun _ h1 _ => h1 y h e
theorem gh_rch_st {el sd : Nat → Prop} {nr : Nat → Nat} {rf : Nat → Nat → Nat} {y i : Nat} (h : gh_rch el sd nr rf y) (hi : i < nr y) (e : el (rf y i)) : gh_rch el sd nr rf (rf y i) :=
  fun S h1 h2 => h2 y i (h S h1 h2) hi e
theorem gh_rch_el {el sd : Nat → Prop} {nr : Nat → Nat} {rf : Nat → Nat → Nat} {y : Nat} (h : gh_rch el sd nr rf y) : el y := h el (fun _ _ e => e) (fun _ _ _ _ e => e)
def gh_elF (ids : List Nat) (x : Nat) : Prop := x ∈ ids
def gh_elM (P : Nat) (ids : List Nat) (ag : Nat → Nat) (x : Nat) : Prop := x ∈ ids ∧ ag x < P
def gh_sdF (ro : Nat → Nat) (y : Nat) : Prop := ∃ r, y = ro r
def gh_sdM (P : Nat) (ids : List Nat) (ag nr : Nat → Nat) (rf : Nat → Nat → Nat) (ro : Nat → Nat) (y : Nat) : Prop :=
  (∃ r, y = ro r) ∨ ∃ x i, x ∈ ids ∧ P ≤ ag x ∧ i < nr x ∧ y = rf x i
/-- what a full collection reaches -/
def gh_RF (ids : List Nat) (nr : Nat → Nat) (rf : Nat → Nat → Nat) (ro : Nat → Nat) : Nat → Prop := gh_rch (gh_elF ids) (gh_sdF ro) nr rf
/-- what a minor collection reaches -/
def gh_RM (P : Nat) (ids : List Nat) (ag nr : Nat → Nat) (rf : Nat → Nat → Nat) (ro : Nat → Nat) : Nat → Prop := gh_rch (gh_elM P ids ag) (gh_sdM P ids ag nr rf ro) nr rf
/-- what a minor collection keeps -/
def gh_KM (P : Nat) (ids : List Nat) (ag nr : Nat → Nat) (rf : Nat → Nat → Nat) (ro : Nat → Nat) (x : Nat) : Prop := gh_RM P ids ag nr rf ro x ∨ P ≤ ag x
/-! outcomes: kind, ids, ages, statistics -/
noncomputable def gh_full (T P : Nat) (ids : List Nat) (ag nr nd : Nat → Nat) (rf : Nat → Nat → Nat) (ro : Nat → Nat) (st : Nat → Int32) : Int32 × List Nat × (Nat → Nat) × (Nat → Int32) :=
  if gh_mw (gh_RF ids nr rf ro) ag (gh_w nr nd) ids P + gh_mw (gh_RF ids nr rf ro) ag (gh_w nr nd) ids (P - 1) ≤ T then
    (2, gh_kp (gh_RF ids nr rf ro) ids, gh_up P ag, upd (upd (upd (upd st 5 (st 5 + 1)) 0 2) 1 (nI (gh_dw (gh_RF ids nr rf ro) (gh_w nr nd) ids))) 2 (nI (gh_mw (gh_RF ids nr rf ro) ag (gh_w nr nd) ids (P - 1))))
  else
    (3, gh_kp (gh_RF ids nr rf ro) ids, ag, upd (upd (upd (upd st 6 (st 6 + 1)) 0 3) 1 (nI (gh_dw (gh_RF ids nr rf ro) (gh_w nr nd) ids))) 2 0)
noncomputable def gh_minor (T P : Nat) (ids : List Nat) (ag nr nd : Nat → Nat) (rf : Nat → Nat → Nat) (ro : Nat → Nat) (st : Nat → Int32) : Int32 × List Nat × (Nat → Nat) × (Nat → Int32) :=
  if gh_as ag (gh_w nr nd) ids P + gh_mw (gh_RM P ids ag nr rf ro) ag (gh_w nr nd) ids (P - 1) ≤ T then
    (1, gh_kp (gh_KM P ids ag nr rf ro) ids, gh_up P ag, upd (upd (upd (upd st 4 (st 4 + 1)) 0 1) 1 (nI (gh_dw (gh_KM P ids ag nr rf ro) (gh_w nr nd) ids))) 2 (nI (gh_mw (gh_RM P ids ag nr rf ro) ag (gh_w nr nd) ids (P - 1))))
  else gh_full T P ids ag nr nd rf ro (upd st 7 (st 7 + 1))
section
variable {N T P K la : Nat} {ids : List Nat} {ag nr nd : Nat → Nat} {rf : Nat → Nat → Nat} {da : Nat → Nat → Int32} {ro : Nat → Nat}
theorem gh_yw (wf : gh_WF N T P K ids ag nr nd rf ro la) : ∀ p, p ≤ P → gh_S (fun x => if ag x < p then gh_w nr nd x else 0) ids ≤ p * N := by
  intro p
  induction p with
  | zero =>
    intro _
    rw [gh_S_congr (g := fun _ => 0) (fun x _ => if_neg (Nat.not_lt_zero _))]
    clear wf
    induction ids with
    | nil => simp [gh_S]
    | cons y l ih => simp only [gh_S]; omega
  | succ p ih =>
    intro hp
    have h1 := ih (by omega)
    have h2 := wf.2.2.2.2.2.2.1 p (by omega)
    unfold gh_as at h2
    have e : gh_S (fun x => if ag x < p + 1 then gh_w nr nd x else 0) ids = gh_S (fun x => if ag x < p then gh_w nr nd x else 0) ids + gh_S (fun x => if ag x = p then gh_w nr nd x else 0) ids := by
      rw [← gh_S_add]
      apply gh_S_congr
      intro x _
      by_cases a1 : ag x < p
      · rw [if_pos a1, if_pos (by omega), if_neg (by omega)]; omega
      · by_cases a2 : ag x = p
        · rw [if_neg a1, if_pos (by omega), if_pos a2]; omega
        · rw [if_neg a1, if_neg (by omega), if_neg a2]
    rw [e, Nat.succ_mul]
    omega
theorem gh_tot (wf : gh_WF N T P K ids ag nr nd rf ro la) : gh_S (gh_w nr nd) ids ≤ P * N + gh_as ag (gh_w nr nd) ids P := by
  have h1 := gh_yw wf P (Nat.le_refl _)
  have e : gh_S (gh_w nr nd) ids = gh_S (fun x => if ag x < P then gh_w nr nd x else 0) ids + gh_as ag (gh_w nr nd) ids P := by
    unfold gh_as
    rw [← gh_S_add]
    apply gh_S_congr
    intro x hx
    have := (wf.2.2.1 x hx).2.2.2.2
    by_cases a1 : ag x < P
    · rw [if_pos a1, if_neg (by omega)]; omega
    · rw [if_neg a1, if_pos (by omega)]; omega
  omega
theorem gh_PN (wf : gh_WF N T P K ids ag nr nd rf ro la) : P * N ≤ 96 := by
  have h1 : P ≤ 3 := wf.1.2.2.2.2.2.1
  have h2 : N ≤ 32 := wf.1.2.1
  exact Nat.mul_le_mul h1 h2
theorem gh_S2 {f : Nat → Nat} {l : List Nat} (h : ∀ x, 2 ≤ f x) : 2 * l.length ≤ gh_S f l := by
  induction l with
  | nil => exact Nat.le_refl _
  | cons x l ih => have := h x; simp only [gh_S, List.length_cons]; omega
theorem gh_w2 {x : Nat} : 2 ≤ gh_w nr nd x := by unfold gh_w; omega
theorem gh_len80 (wf : gh_WF N T P K ids ag nr nd rf ro la) : ids.length ≤ 80 := by
  have h1 := gh_tot wf
  have h2 := gh_PN wf
  have h3 : gh_as ag (gh_w nr nd) ids P ≤ T := wf.2.2.2.2.2.2.2
  have h4 : T ≤ 64 := wf.1.2.2.2.1
  have h5 : 2 * ids.length ≤ gh_S (gh_w nr nd) ids := gh_S2 (fun x => gh_w2)
  omega
/-- a collection that keeps R: R closed; either all young ages go up, and the tenured space has the room, or none does -/
theorem gh_WF_st (wf : gh_WF N T P K ids ag nr nd rf ro la) {R : Nat → Prop} (h1 : ∀ x i, x ∈ ids → R x → i < nr x → rf x i ∈ ids → R (rf x i)) (h2 : ∀ r, ro r ∈ ids → R (ro r)) :
    gh_WF N T P K (gh_kp R ids) ag nr nd rf ro la := by
  obtain ⟨hc, hN, hX, hF, hR, hK, hA, hT⟩ := wf
  refine ⟨hc, gh_kp_nodup hN, fun x hx => hX x (gh_kp_mem.mp hx).1, ?_, ?_, hK, ?_, ?_⟩
  · intro x i hx hi
    have hx' := gh_kp_mem.mp hx
    rcases hF x i hx'.1 hi with e | e
    · exact Or.inl e
    · exact Or.inr (gh_kp_mem.mpr ⟨e, h1 x i hx'.1 hx'.2 hi e⟩)
  · intro r
    rcases hR r with e | e
    · exact Or.inl e
    · exact Or.inr (gh_kp_mem.mpr ⟨e, h2 r e⟩)
  · intro a ha
    exact Nat.le_trans (gh_S_le _ _ (gh_kp_nodup hN) (fun x hx => ⟨(gh_kp_mem.mp hx).1, Nat.le_refl _⟩)) (hA a ha)
  · exact Nat.le_trans (gh_S_le _ _ (gh_kp_nodup hN) (fun x hx => ⟨(gh_kp_mem.mp hx).1, Nat.le_refl _⟩)) hT
theorem gh_WF_up (wf : gh_WF N T P K ids ag nr nd rf ro la) {R : Nat → Prop} (h1 : ∀ x i, x ∈ ids → R x → i < nr x → rf x i ∈ ids → R (rf x i)) (h2 : ∀ r, ro r ∈ ids → R (ro r))
    (h3 : gh_mw R ag (gh_w nr nd) ids P + gh_mw R ag (gh_w nr nd) ids (P - 1) ≤ T) :
    gh_WF N T P K (gh_kp R ids) (gh_up P ag) nr nd rf ro la := by
  have wf' := gh_WF_st wf h1 h2
  obtain ⟨hc, hN, hX, hF, hR, hK, hA, hT⟩ := wf
  refine ⟨hc, wf'.2.1, ?_, wf'.2.2.2.1, wf'.2.2.2.2.1, hK, ?_, ?_⟩
  · intro x hx
    have h := hX x (gh_kp_mem.mp hx).1
    refine ⟨h.1, h.2.1, h.2.2.1, h.2.2.2.1, ?_⟩
    have := h.2.2.2.2
    unfold gh_up
    by_cases a1 : ag x < P
    · rw [if_pos a1]; omega
    · rw [if_neg a1]; omega
  · intro a ha
    rcases Nat.eq_zero_or_pos a with z | z
    · subst z
      have e : gh_as (gh_up P ag) (gh_w nr nd) (gh_kp R ids) 0 ≤ gh_S (fun _ => 0) ids := by
        unfold gh_as
        refine gh_S_le _ _ (gh_kp_nodup hN) (fun x hx => ⟨(gh_kp_mem.mp hx).1, ?_⟩)
        have hu : gh_up P ag x ≠ 0 := by
          unfold gh_up
          by_cases a1 : ag x < P
          · rw [if_pos a1]; omega
          · rw [if_neg a1]; omega
        rw [if_neg hu]
        exact Nat.le_refl _
      have e0 : ∀ l : List Nat, gh_S (fun _ => 0) l = 0 := by
        intro l
        induction l with
        | nil => rfl
        | cons y l ih => simp only [gh_S, ih]
      rw [e0] at e
      omega
    · obtain ⟨b, rfl⟩ : ∃ b, a = b + 1 := ⟨a - 1, by omega⟩
      refine Nat.le_trans ?_ (hA b (by omega))
      unfold gh_as
      refine gh_S_le _ _ (gh_kp_nodup hN) (fun x hx => ⟨(gh_kp_mem.mp hx).1, ?_⟩)
      unfold gh_up
      by_cases a1 : ag x < P
      · rw [if_pos a1]
        by_cases a2 : ag x = b
        · rw [if_pos (by omega), if_pos a2]; exact Nat.le_refl _
        · rw [if_neg (by omega)]; exact Nat.zero_le _
      · rw [if_neg a1, if_neg (by omega)]; exact Nat.zero_le _
  · refine Nat.le_trans ?_ h3
    unfold gh_mw
    rw [← gh_S_add]
    unfold gh_as
    refine gh_S_le _ _ (gh_kp_nodup hN) (fun x hx => ⟨(gh_kp_mem.mp hx).1, ?_⟩)
    have hx' := gh_kp_mem.mp hx
    have hb : gh_bl (R x) = true := gh_bl_iff.mpr hx'.2
    have := (hX x hx'.1).2.2.2.2
    unfold gh_up
    by_cases a1 : ag x < P
    · rw [if_pos a1]
      by_cases a2 : ag x + 1 = P
      · rw [if_pos a2, if_neg (by omega), if_pos ⟨hb, by omega⟩]; omega
      · rw [if_neg a2]; exact Nat.zero_le _
    · rw [if_neg a1]
      by_cases a2 : ag x = P
      · rw [if_pos a2, if_pos ⟨hb, a2⟩]; omega
      · rw [if_neg a2]; exact Nat.zero_le _
theorem gh_RF_cl {x i : Nat} (h : gh_RF ids nr rf ro x) (hi : i < nr x) (e : rf x i ∈ ids) : gh_RF ids nr rf ro (rf x i) := gh_rch_st h hi e
theorem gh_WF_full (wf : gh_WF N T P K ids ag nr nd rf ro la) (st : Nat → Int32) :
    gh_WF N T P K (gh_full T P ids ag nr nd rf ro st).2.1 (gh_full T P ids ag nr nd rf ro st).2.2.1 nr nd rf ro la := by
  unfold gh_full
  by_cases h : gh_mw (gh_RF ids nr rf ro) ag (gh_w nr nd) ids P + gh_mw (gh_RF ids nr rf ro) ag (gh_w nr nd) ids (P - 1) ≤ T
  · rw [if_pos h]
    exact gh_WF_up wf (fun x i _ hx hi e => gh_RF_cl hx hi e) (fun r e => gh_rch_sd ⟨r, rfl⟩ e) h
  · rw [if_neg h]
    exact gh_WF_st wf (fun x i _ hx hi e => gh_RF_cl hx hi e) (fun r e => gh_rch_sd ⟨r, rfl⟩ e)
theorem gh_KM_P (wf : gh_WF N T P K ids ag nr nd rf ro la) : gh_mw (gh_KM P ids ag nr rf ro) ag (gh_w nr nd) ids P = gh_as ag (gh_w nr nd) ids P := by
  unfold gh_mw gh_as
  apply gh_S_congr
  intro x hx
  by_cases a : ag x = P
  · rw [if_pos ⟨gh_bl_iff.mpr (Or.inr (Nat.le_of_eq a.symm)), a⟩, if_pos a]
  · rw [if_neg (fun c => a c.2), if_neg a]
theorem gh_KM_p (wf : gh_WF N T P K ids ag nr nd rf ro la) : gh_mw (gh_KM P ids ag nr rf ro) ag (gh_w nr nd) ids (P - 1) = gh_mw (gh_RM P ids ag nr rf ro) ag (gh_w nr nd) ids (P - 1) := by
  have hP : 1 ≤ P := wf.1.2.2.2.2.1
  unfold gh_mw
  apply gh_S_congr
  intro x hx
  by_cases a : ag x = P - 1
  · by_cases b : gh_RM P ids ag nr rf ro x
    · rw [if_pos ⟨gh_bl_iff.mpr (Or.inl b), a⟩, if_pos ⟨gh_bl_iff.mpr b, a⟩]
    · rw [if_neg, if_neg (fun c => b (gh_bl_iff.mp c.1))]
      intro c
      rcases gh_bl_iff.mp c.1 with d | d
      · exact b d
      · omega
  · rw [if_neg (fun c => a c.2), if_neg (fun c => a c.2)]
theorem gh_KM_cl (wf : gh_WF N T P K ids ag nr nd rf ro la) {x i : Nat} (hx : x ∈ ids) (h : gh_KM P ids ag nr rf ro x) (hi : i < nr x) (e : rf x i ∈ ids) : gh_KM P ids ag nr rf ro (rf x i) := by
  by_cases a : P ≤ ag (rf x i)
  · exact Or.inr a
  · have el : gh_elM P ids ag (rf x i) := ⟨e, by omega⟩
    rcases h with h | h
    · exact Or.inl (gh_rch_st h hi el)
    · exact Or.inl (gh_rch_sd (Or.inr ⟨x, i, hx, h, hi, rfl⟩) el)
theorem gh_KM_ro {r : Nat} (e : ro r ∈ ids) : gh_KM P ids ag nr rf ro (ro r) := by
  by_cases a : P ≤ ag (ro r)
  · exact Or.inr a
  · exact Or.inl (gh_rch_sd (Or.inl ⟨r, rfl⟩) ⟨e, by omega⟩)
theorem gh_WF_minor (wf : gh_WF N T P K ids ag nr nd rf ro la) (st : Nat → Int32) :
    gh_WF N T P K (gh_minor T P ids ag nr nd rf ro st).2.1 (gh_minor T P ids ag nr nd rf ro st).2.2.1 nr nd rf ro la := by
  unfold gh_minor
  by_cases h : gh_as ag (gh_w nr nd) ids P + gh_mw (gh_RM P ids ag nr rf ro) ag (gh_w nr nd) ids (P - 1) ≤ T
  · rw [if_pos h]
    exact gh_WF_up wf (fun x i hx hk hi e => gh_KM_cl wf hx hk hi e) (fun r e => gh_KM_ro e) (by rw [gh_KM_P wf, gh_KM_p wf]; exact h)
  · rw [if_neg h]
    exact gh_WF_full wf _
/-- the statistics' last serial is not touched -/
theorem gh_full_3 (st : Nat → Int32) : (gh_full T P ids ag nr nd rf ro st).2.2.2 3 = st 3 := by
  unfold gh_full
  by_cases h : gh_mw (gh_RF ids nr rf ro) ag (gh_w nr nd) ids P + gh_mw (gh_RF ids nr rf ro) ag (gh_w nr nd) ids (P - 1) ≤ T
  · rw [if_pos h]; rfl
  · rw [if_neg h]; rfl
theorem gh_minor_3 (st : Nat → Int32) : (gh_minor T P ids ag nr nd rf ro st).2.2.2 3 = st 3 := by
  unfold gh_minor
  by_cases h : gh_as ag (gh_w nr nd) ids P + gh_mw (gh_RM P ids ag nr rf ro) ag (gh_w nr nd) ids (P - 1) ≤ T
  · rw [if_pos h]; rfl
  · rw [if_neg h]; rw [gh_full_3]; rfl
/-- an allocation -/
theorem gh_WF_al (wf : gh_WF N T P K ids ag nr nd rf ro la) {dst a r d : Nat} (hla : la < 1000000) (hr : r ≤ 3) (hd : d ≤ 2) (ha : a ≤ P) (hdst : dst < K)
    (h1 : a < P → gh_as ag (gh_w nr nd) ids a + (2 + r + d) ≤ N) (h2 : a = P → gh_as ag (gh_w nr nd) ids P + (2 + r + d) ≤ T) :
    gh_WF N T P K (ids ++ [la + 1]) (gh_u ag (la + 1) a) (gh_u nr (la + 1) r) (gh_u nd (la + 1) d) (gh_u rf (la + 1) (fun _ => 0)) (gh_u ro dst (la + 1)) (la + 1) := by
  obtain ⟨⟨c1, c2, c3, c4, c5, c6, c7, c8, c9⟩, hN, hX, hF, hR, hK, hA, hT⟩ := wf
  have hn : la + 1 ∉ ids := fun h => by have := (hX _ h).2.1; omega
  have ne : ∀ x, x ∈ ids → x ≠ la + 1 := fun x hx e => hn (e ▸ hx)
  have hs : ∀ b, gh_as (gh_u ag (la + 1) a) (gh_w (gh_u nr (la + 1) r) (gh_u nd (la + 1) d)) (ids ++ [la + 1]) b = gh_as ag (gh_w nr nd) ids b + (if a = b then 2 + r + d else 0) := by
    intro b
    unfold gh_as
    rw [gh_S_app]
    have e1 : gh_S (fun x => if gh_u ag (la + 1) a x = b then gh_w (gh_u nr (la + 1) r) (gh_u nd (la + 1) d) x else 0) ids = gh_S (fun x => if ag x = b then gh_w nr nd x else 0) ids := by
      apply gh_S_congr
      intro x hx
      unfold gh_w
      rw [gh_un (ne x hx), gh_un (ne x hx), gh_un (ne x hx)]
    rw [e1]
    simp only [gh_S, gh_us, gh_w, Nat.add_zero]
  refine ⟨⟨c1, c2, c3, c4, c5, c6, c7, c8, by omega⟩, ?_, ?_, ?_, ?_, ?_, ?_, ?_⟩
  · rw [List.nodup_append]
    refine ⟨hN, by simp, ?_⟩
    intro x hx y hy
    rw [List.mem_singleton] at hy
    subst hy
    exact ne x hx
  · intro x hx
    rcases List.mem_append.mp hx with h | h
    · have h' := hX x h
      rw [gh_un (ne x h), gh_un (ne x h), gh_un (ne x h)]
      exact ⟨h'.1, by omega, h'.2.2.1, h'.2.2.2.1, h'.2.2.2.2⟩
    · rw [List.mem_singleton] at h
      subst h
      rw [gh_us, gh_us, gh_us]
      exact ⟨by omega, by omega, hr, hd, ha⟩
  · intro x i hx hi
    rcases List.mem_append.mp hx with h | h
    · rw [gh_un (ne x h)] at hi ⊢
      rcases hF x i h hi with e | e
      · exact Or.inl e
      · exact Or.inr (List.mem_append.mpr (Or.inl e))
    · rw [List.mem_singleton] at h
      subst h
      rw [gh_us]
      exact Or.inl rfl
  · intro q
    by_cases e : q = dst
    · subst e; rw [gh_us]; exact Or.inr (List.mem_append.mpr (Or.inr (List.mem_singleton.mpr rfl)))
    · rw [gh_un e]
      rcases hR q with e | e
      · exact Or.inl e
      · exact Or.inr (List.mem_append.mpr (Or.inl e))
  · intro q hq
    rw [gh_un (by omega)]
    exact hK q hq
  · intro b hb
    rw [hs]
    have := hA b hb
    by_cases e : a = b
    · rw [if_pos e]; subst e; exact h1 hb
    · rw [if_neg e]; omega
  · rw [hs]
    by_cases e : a = P
    · rw [if_pos e]; exact h2 e
    · rw [if_neg e]; omega
/-- new roots or new fields -/
theorem gh_WF_ro (wf : gh_WF N T P K ids ag nr nd rf ro la) {dst y : Nat} (hy : y = 0 ∨ y ∈ ids) (hd : dst < K) : gh_WF N T P K ids ag nr nd rf (gh_u ro dst y) la := by
  obtain ⟨hc, hN, hX, hF, hR, hK, hA, hT⟩ := wf
  refine ⟨hc, hN, hX, hF, ?_, ?_, hA, hT⟩
  · intro q
    by_cases e : q = dst
    · subst e; rw [gh_us]; exact hy
    · rw [gh_un e]; exact hR q
  · intro q hq
    rw [gh_un (by omega)]
    exact hK q hq
theorem gh_WF_rf (wf : gh_WF N T P K ids ag nr nd rf ro la) {x j y : Nat} (hy : y = 0 ∨ y ∈ ids) : gh_WF N T P K ids ag nr nd (gh_u rf x (gh_u (rf x) j y)) ro la := by
  obtain ⟨hc, hN, hX, hF, hR, hK, hA, hT⟩ := wf
  refine ⟨hc, hN, hX, ?_, hR, hK, hA, hT⟩
  intro z i hz hi
  by_cases e : z = x
  · subst e
    rw [gh_us]
    by_cases e2 : i = j
    · subst e2; rw [gh_us]; exact hy
    · rw [gh_un e2]; exact hF z i hz hi
  · rw [gh_un e]; exact hF z i hz hi
end
end
section
/-! the model: its table of slots against the abstract heap -/
def gh_bd (P : Nat) (ids : List Nat) (ag nr nd : Nat → Nat) : Prop := 1 ≤ P ∧ P ≤ 3 ∧ ∀ x, x ∈ ids → 1 ≤ x ∧ x ≤ 1000000 ∧ nr x ≤ 3 ∧ nd x ≤ 2 ∧ ag x ≤ P
def gy_T (ids : List Nat) (ag nr nd : Nat → Nat) (rf : Nat → Nat → Nat) (da : Nat → Nat → Int32) (se : Nat → Nat) (ySe yAg yNr yNd yRc yDc : Nat → Int32) : Prop :=
  (∀ s, s < 80 → ySe s = nI (se s)) ∧
  (∀ s, s < 80 → se s ≠ 0 → se s ∈ ids ∧ yAg s = nI (ag (se s)) ∧ yNr s = nI (nr (se s)) ∧ yNd s = nI (nd (se s)) ∧
    (∀ i, i < nr (se s) → yRc (3 * s + i) = nI (rf (se s) i)) ∧ (∀ i, i < nd (se s) → yDc (2 * s + i) = da (se s) i)) ∧
  (∀ x, x ∈ ids → ∃ s, s < 80 ∧ se s = x) ∧
  (∀ s t, s < 80 → t < 80 → se s ≠ 0 → se s = se t → s = t)
def gy_R (N T P K : Nat) (ids : List Nat) (ag nr nd : Nat → Nat) (rf : Nat → Nat → Nat) (da : Nat → Nat → Int32) (ro : Nat → Nat) (st : Nat → Int32) (v : SY) : Prop := match v with
  | (yn, yt, yp, yk, yLk, yLf, yLp, yLs, yMi, yFu, ySt, yOv, ySe, yAg, yNr, yNd, yRc, yDc, yRo, yMk) => (yn = nI N ∧ yt = nI T ∧ yp = nI P ∧ yk = nI K) ∧ (yLk = st 0 ∧ yLf = st 1 ∧ yLp = st 2 ∧ yLs = st 3 ∧ yMi = st 4 ∧ yFu = st 5 ∧ ySt = st 6 ∧ yOv = st 7) ∧
    (∀ r, r < 8 → yRo r = nI (ro r)) ∧ ∃ se, gy_T ids ag nr nd rf da se ySe yAg yNr yNd yRc yDc
theorem gh_bd_of {N T P K la : Nat} {ids : List Nat} {ag nr nd : Nat → Nat} {rf : Nat → Nat → Nat} {ro : Nat → Nat} (wf : gh_WF N T P K ids ag nr nd rf ro la) : gh_bd P ids ag nr nd := by
  obtain ⟨⟨c1, c2, c3, c4, c5, c6, c7, c8, c9⟩, hN, hX, _⟩ := wf
  refine ⟨c5, c6, fun x hx => ?_⟩
  have h := hX x hx
  exact ⟨h.1, by omega, h.2.2.1, h.2.2.2.1, h.2.2.2.2⟩
section
variable {yn yt yp yk yLk yLf yLp yLs yMi yFu ySt yOv : Int32} {ySe yAg yNr yNd yRc yDc yRo yMk : Nat → Int32} {ids : List Nat} {ag nr nd : Nat → Nat} {rf : Nat → Nat → Nat} {da : Nat → Nat → Int32} {ro : Nat → Nat} {P : Nat} {se : Nat → Nat}
theorem gy_find8 {post : Int32 → Prop} {p0 : Int32} (k1 : ∀ s, s < 80 → ySe s = p0 → post (nI s)) (k2 : (∀ s, s < 80 → ySe s ≠ p0) → post (-1)) :
    ∀ (n s : Nat), 80 - s < n → s ≤ 80 → (∀ t, t < s → ySe t ≠ p0) → wY_find_8 post p0 yn yt yp yk yLk yLf yLp yLs yMi yFu ySt yOv ySe yAg yNr yNd yRc yDc yRo yMk n (nI s) := by
  intro n
  induction n with
  | zero => intro s h; omega
  | succ n ih =>
    intro s hn hs ha
    refine pk_le 80 s (fun h => k2 (fun t ht => ha t (by omega))) (fun h => ⟨pk_in s 80 h, ?_⟩)
    rw [nI_clamp (by omega)]
    by_cases e : ySe s = p0
    · exact br_t e (k1 s h e)
    · refine br_f e (nm_r (nI_1 s) (ih (s + 1) (by omega) (by omega) ?_))
      intro t ht
      by_cases z : t = s
      · subst z; exact e
      · exact ha t (by omega)
theorem gy_find {post : Int32 → Prop} {p0 : Int32} (hb : gh_bd P ids ag nr nd) (hT : gy_T ids ag nr nd rf da se ySe yAg yNr yNd yRc yDc)
    (k1 : ∀ s, s < 80 → se s ≠ 0 → p0 = nI (se s) → post (nI s)) (k2 : (∀ x, x ∈ ids → p0 ≠ nI x) → post (-1)) : wpY_find post (yn, yt, yp, yk, yLk, yLf, yLp, yLs, yMi, yFu, ySt, yOv, ySe, yAg, yNr, yNd, yRc, yDc, yRo, yMk) p0 := by
  obtain ⟨h1, h2, h3, h4⟩ := hT
  unfold wpY_find
  refine br_c (fun h0 => ?_) (fun h0 => k2 ?_)
  · refine ⟨81, gy_find8 (fun s hs e => ?_) (fun ha => k2 ?_) 81 0 (by omega) (by omega) (fun t ht => by omega)⟩
    · have e1 := h1 s hs
      refine k1 s hs (fun z => ?_) (e.symm.trans e1)
      rw [e, z] at e1
      rw [e1, nI_0] at h0
      exact absurd h0 (by decide)
    · intro x hx e
      obtain ⟨s, hs, es⟩ := h3 x hx
      exact ha s hs ((h1 s hs).trans (by rw [es, e]))
  · intro x hx e
    have hx' := hb.2.2 x hx
    apply h0
    rw [e]
    exact nI_lt (a := 0) (by omega) (by omega)
/-- a serial's slot, or none for null -/
theorem gy_findN {post : Int32 → Prop} {y : Nat} (hb : gh_bd P ids ag nr nd) (hT : gy_T ids ag nr nd rf da se ySe yAg yNr yNd yRc yDc) (hy : y = 0 ∨ y ∈ ids)
    (k1 : ∀ s, s < 80 → y ∈ ids → se s = y → post (nI s)) (k2 : y = 0 → post (-1)) : wpY_find post (yn, yt, yp, yk, yLk, yLf, yLp, yLs, yMi, yFu, ySt, yOv, ySe, yAg, yNr, yNd, yRc, yDc, yRo, yMk) (nI y) := by
  refine gy_find hb hT (fun s hs h0 e => ?_) (fun ha => ?_)
  · have hi := (hT.2.1 s hs h0).1
    have hx := hb.2.2 _ hi
    have : y = se s := by
      rcases hy with z | z
      · subst z
        exact (nI_eq (by omega) (by omega)).mp e
      · have hz := hb.2.2 _ z
        exact (nI_eq (by omega) (by omega)).mp e
    subst this
    exact k1 s hs hi rfl
  · rcases hy with z | z
    · exact k2 z
    · exact absurd rfl (ha y z)
theorem gy_weight {post : Int32 → Prop} {s : Nat} (hT : gy_T ids ag nr nd rf da se ySe yAg yNr yNd yRc yDc) (hs : s < 80) (h0 : se s ≠ 0)
    (k : post (nI (gh_w nr nd (se s)))) : wpY_weight post (yn, yt, yp, yk, yLk, yLf, yLp, yLs, yMi, yFu, ySt, yOv, ySe, yAg, yNr, yNd, yRc, yDc, yRo, yMk) (nI s) := by
  unfold wpY_weight
  refine ⟨pk_in s 80 hs, pk_in s 80 hs, ?_⟩
  obtain ⟨_, e1, e2, e3, _⟩ := hT.2.1 s hs h0
  rw [nI_clamp (by omega), e2, e3]
  have e : (2 : Int32) + nI (nr (se s)) + nI (nd (se s)) = nI (gh_w nr nd (se s)) := by
    unfold gh_w
    rw [← nI_add, ← nI_add]
    rfl
  rw [e]
  exact k
theorem gy_spaceOf {post : Int32 → Prop} {s : Nat} (hb : gh_bd P ids ag nr nd) (hT : gy_T ids ag nr nd rf da se ySe yAg yNr yNd yRc yDc) (hs : s < 80) (h0 : se s ≠ 0) (hp : yp = nI P)
    (k : post (nI (gh_sp P (ag (se s))))) : wpY_spaceOf post (yn, yt, yp, yk, yLk, yLf, yLp, yLs, yMi, yFu, ySt, yOv, ySe, yAg, yNr, yNd, yRc, yDc, yRo, yMk) (nI s) := by
  unfold wpY_spaceOf
  refine ⟨pk_in s 80 hs, ?_⟩
  obtain ⟨hi, e1, e2, e3, _⟩ := hT.2.1 s hs h0
  have hx := hb.2.2 _ hi
  have hP := hb.2.1
  rw [nI_clamp (by omega), e1]
  subst hp
  refine pk_eq (ag (se s)) 0 (fun h => ?_) (fun h => ⟨pk_in s 80 hs, pk_le P (ag (se s)) (fun h2 => ?_) (fun h2 => ?_)⟩)
  · have e := (gh_sp0 (P := P)).mpr h
    rw [e] at k; exact k
  · have e := (gh_sp2 (P := P)).mpr ⟨h, h2⟩
    rw [e] at k; exact k
  · have e := (gh_sp1 (P := P)).mpr ⟨h, h2⟩
    rw [e] at k; exact k
/-! sums over the slots -/
theorem gh_S_map {f g : Nat → Nat} {l : List Nat} : gh_S f (l.map g) = gh_S (fun x => f (g x)) l := by
  induction l with
  | nil => rfl
  | cons x l ih => simp only [List.map_cons, gh_S, ih]
theorem gy_sum (hn : ids.Nodup) (h0 : ∀ x, x ∈ ids → x ≠ 0) (hT : gy_T ids ag nr nd rf da se ySe yAg yNr yNd yRc yDc) (f : Nat → Nat) :
    gh_N (fun s => if se s = 0 then 0 else f (se s)) 80 = gh_S f ids := by
  obtain ⟨h1, h2, h3, h4⟩ := hT
  rw [gh_N_S]
  have e : gh_S (fun s => if se s = 0 then 0 else f (se s)) (List.range 80) = gh_S f (((List.range 80).filter (fun s => gh_bl (se s ≠ 0))).map se) := by
    rw [gh_S_map, gh_S_flt]
    apply gh_S_congr
    intro s _
    by_cases z : se s = 0
    · rw [if_pos z, if_neg (fun c : gh_bl (se s ≠ 0) = true => (gh_bl_iff.mp c) z)]
    · rw [if_neg z, if_pos (gh_bl_iff.mpr z)]
  rw [e]
  have hmem : ∀ s, s ∈ (List.range 80).filter (fun s => gh_bl (se s ≠ 0)) ↔ s < 80 ∧ se s ≠ 0 := by
    intro s
    rw [List.mem_filter, List.mem_range, gh_bl_iff]
  refine gh_S_eq ?_ hn ?_ ?_
  · rw [List.nodup_iff_pairwise_ne, List.pairwise_map]
    refine List.Pairwise.imp_of_mem ?_ (List.nodup_iff_pairwise_ne.mp (List.Nodup.sublist (List.filter_sublist ..) List.nodup_range))
    intro a b ha hb hne e
    have ha' := (hmem a).mp ha
    have hb' := (hmem b).mp hb
    exact hne (h4 a b ha'.1 hb'.1 ha'.2 e)
  · intro x hx
    obtain ⟨s, hs, es⟩ := List.mem_map.mp hx
    have hs' := (hmem s).mp hs
    subst es
    exact ⟨(h2 s hs'.1 hs'.2).1, rfl⟩
  · intro x hx hnx
    exfalso
    obtain ⟨s, hs, es⟩ := h3 x hx
    apply hnx
    rw [List.mem_map]
    exact ⟨s, (hmem s).mpr ⟨hs, fun z => h0 x hx (es ▸ z)⟩, es⟩
theorem gy_used16 {post : Int32 → Prop} {sp : Nat} (hsp : sp < 3) (hb : gh_bd P ids ag nr nd) (hT : gy_T ids ag nr nd rf da se ySe yAg yNr yNd yRc yDc) (hp : yp = nI P)
    (k : post (nI (gh_N (fun s => if se s = 0 then 0 else if gh_sp P (ag (se s)) = sp then gh_w nr nd (se s) else 0) 80))) :
    ∀ (n s : Nat), 80 - s < n → s ≤ 80 → wY_used_16 post (nI sp) yn yt yp yk yLk yLf yLp yLs yMi yFu ySt yOv ySe yAg yNr yNd yRc yDc yRo yMk n (nI (gh_N (fun s => if se s = 0 then 0 else if gh_sp P (ag (se s)) = sp then gh_w nr nd (se s) else 0) s)) (nI s) := by
  intro n
  induction n with
  | zero => intro s h; omega
  | succ n ih =>
    intro s hn hs
    refine pk_le 80 s (fun h => ?_) (fun h => ⟨pk_in s 80 h, ?_⟩)
    · have : s = 80 := by omega
      subst this
      exact k
    · have I := ih (s + 1) (by omega) (by omega)
      rw [nI_clamp (by omega), hT.1 s h]
      by_cases z : se s = 0
      · refine br_t (by rw [z]; rfl) (nm_r (nI_1 s) ?_)
        simp only [gh_N, if_pos z, Nat.add_zero] at I
        exact I
      · have hx := hb.2.2 _ (hT.2.1 s h z).1
        refine br_f (nI_ne0 (by omega) (by omega)) (gy_spaceOf hb hT h z hp ?_)
        have h3 : gh_sp P (ag (se s)) < 3 := gh_sp3
        refine pk_eq (gh_sp P (ag (se s))) sp (fun q => gy_weight hT h z (nm_r (nI_add _ _) (nm_r (nI_1 s) ?_))) (fun q => nm_r (nI_1 s) ?_)
        · simp only [gh_N, if_neg z, if_pos q] at I
          exact I
        · simp only [gh_N, if_neg z, if_neg q, Nat.add_zero] at I
          exact I
theorem gy_count16 {post : Int32 → Prop} {sp : Nat} (hsp : sp < 3) (hb : gh_bd P ids ag nr nd) (hT : gy_T ids ag nr nd rf da se ySe yAg yNr yNd yRc yDc) (hp : yp = nI P)
    (k : post (nI (gh_N (fun s => if se s = 0 then 0 else if gh_sp P (ag (se s)) = sp then 1 else 0) 80))) :
    ∀ (n s : Nat), 80 - s < n → s ≤ 80 → wY_count_16 post (nI sp) yn yt yp yk yLk yLf yLp yLs yMi yFu ySt yOv ySe yAg yNr yNd yRc yDc yRo yMk n (nI (gh_N (fun s => if se s = 0 then 0 else if gh_sp P (ag (se s)) = sp then 1 else 0) s)) (nI s) := by
  intro n
  induction n with
  | zero => intro s h; omega
  | succ n ih =>
    intro s hn hs
    refine pk_le 80 s (fun h => ?_) (fun h => ⟨pk_in s 80 h, ?_⟩)
    · have : s = 80 := by omega
      subst this
      exact k
    · have I := ih (s + 1) (by omega) (by omega)
      rw [nI_clamp (by omega), hT.1 s h]
      by_cases z : se s = 0
      · refine br_t (by rw [z]; rfl) (nm_r (nI_1 s) ?_)
        simp only [gh_N, if_pos z, Nat.add_zero] at I
        exact I
      · have hx := hb.2.2 _ (hT.2.1 s h z).1
        refine br_f (nI_ne0 (by omega) (by omega)) (gy_spaceOf hb hT h z hp ?_)
        have h3 : gh_sp P (ag (se s)) < 3 := gh_sp3
        refine pk_eq (gh_sp P (ag (se s))) sp (fun q => nm_r (nI_1 _) (nm_r (nI_1 s) ?_)) (fun q => nm_r (nI_1 s) ?_)
        · simp only [gh_N, if_neg z, if_pos q] at I
          exact I
        · simp only [gh_N, if_neg z, if_neg q, Nat.add_zero] at I
          exact I
/-- weight of a space -/
theorem gy_used {post : Int32 → Prop} {sp : Nat} (hsp : sp < 3) (hn : ids.Nodup) (hb : gh_bd P ids ag nr nd) (hT : gy_T ids ag nr nd rf da se ySe yAg yNr yNd yRc yDc) (hp : yp = nI P)
    (k : post (nI (gh_S (fun x => if gh_sp P (ag x) = sp then gh_w nr nd x else 0) ids))) : wpY_used post (yn, yt, yp, yk, yLk, yLf, yLp, yLs, yMi, yFu, ySt, yOv, ySe, yAg, yNr, yNd, yRc, yDc, yRo, yMk) (nI sp) := by
  have e := gy_sum hn (fun x hx => by have := hb.2.2 x hx; omega) hT (fun x => if gh_sp P (ag x) = sp then gh_w nr nd x else 0)
  rw [← e] at k
  unfold wpY_used
  exact br_f (nI_pos (by omega)) (br_t (nI_le (b := 2) (by omega) (by omega)) ⟨81, gy_used16 hsp hb hT hp k 81 0 (by omega) (by omega)⟩)
theorem gy_count {post : Int32 → Prop} {sp : Nat} (hsp : sp < 3) (hn : ids.Nodup) (hb : gh_bd P ids ag nr nd) (hT : gy_T ids ag nr nd rf da se ySe yAg yNr yNd yRc yDc) (hp : yp = nI P)
    (k : post (nI (gh_S (fun x => if gh_sp P (ag x) = sp then 1 else 0) ids))) : wpY_count post (yn, yt, yp, yk, yLk, yLf, yLp, yLs, yMi, yFu, ySt, yOv, ySe, yAg, yNr, yNd, yRc, yDc, yRo, yMk) (nI sp) := by
  have e := gy_sum hn (fun x hx => by have := hb.2.2 x hx; omega) hT (fun x => if gh_sp P (ag x) = sp then 1 else 0)
  rw [← e] at k
  unfold wpY_count
  exact br_f (nI_pos (by omega)) (br_t (nI_le (b := 2) (by omega) (by omega)) ⟨81, gy_count16 hsp hb hT hp k 81 0 (by omega) (by omega)⟩)
end
end
section
/-! the model's marks -/
def gy_el (yo : Int32) (P : Nat) (ids : List Nat) (ag : Nat → Nat) (x : Nat) : Prop := x ∈ ids ∧ (yo = 0 ∨ ag x < P)
/-- the object x is marked -/
def gy_mk (se : Nat → Nat) (m : Nat → Int32) (x : Nat) : Prop := ∃ s, s < 80 ∧ se s = x ∧ m s ≠ 0
/-- all that is marked is in R -/
def gy_M (R : Nat → Prop) (se : Nat → Nat) (m : Nat → Int32) : Prop := ∀ s, s < 80 → m s ≠ 0 → se s ≠ 0 ∧ R (se s)
def gy_sub (m m' : Nat → Int32) : Prop := ∀ s : Nat, m s ≠ 0 → m' s ≠ 0
theorem gy_sub_r {m : Nat → Int32} : gy_sub m m := fun _ h => h
theorem gy_sub_t {a b c : Nat → Int32} (h1 : gy_sub a b) (h2 : gy_sub b c) : gy_sub a c := fun s h => h2 s (h1 s h)
theorem gy_sub_u {m : Nat → Int32} {s : Nat} : gy_sub m (upd m s 1) := by
  intro t h
  by_cases e : t = s
  · subst e; rw [pk_us]; decide
  · rw [pk_un e]; exact h
theorem gy_mk_sub {se : Nat → Nat} {m m' : Nat → Int32} {x : Nat} (h : gy_sub m m') (k : gy_mk se m x) : gy_mk se m' x := by
  obtain ⟨s, h1, h2, h3⟩ := k
  exact ⟨s, h1, h2, h s h3⟩
theorem gy_M_u {R : Nat → Prop} {se : Nat → Nat} {m : Nat → Int32} {s : Nat} (h : gy_M R se m) (h0 : se s ≠ 0) (hR : R (se s)) : gy_M R se (upd m s 1) := by
  intro t ht hm
  by_cases e : t = s
  · subst e; exact ⟨h0, hR⟩
  · rw [pk_un e] at hm; exact h t ht hm
/-- the number of marks -/
def gy_cn (m : Nat → Int32) : Nat := gh_N (fun s => if m s = 0 then 0 else 1) 80
theorem gy_cn_le {m : Nat → Int32} : gy_cn m ≤ 80 := by
  unfold gy_cn
  refine Nat.le_trans (gh_N_le (g := fun _ => 1) (fun i _ => ?_)) (Nat.le_of_eq gh_N_1)
  by_cases h : m i = 0
  · rw [if_pos h]; omega
  · rw [if_neg h]; omega
theorem gy_cn_mono {m m' : Nat → Int32} (h : gy_sub m m') : gy_cn m ≤ gy_cn m' := by
  unfold gy_cn
  refine gh_N_le (fun i _ => ?_)
  by_cases h1 : m i = 0
  · rw [if_pos h1]; exact Nat.zero_le _
  · rw [if_neg h1, if_neg (h i h1)]; exact Nat.le_refl _
theorem gh_N_lt {f g : Nat → Nat} {n k : Nat} (hk : k < n) (h : ∀ i, i < n → f i ≤ g i) (hs : f k < g k) : gh_N f n < gh_N g n := by
  induction n with
  | zero => omega
  | succ n ih =>
    simp only [gh_N]
    have b := h n (by omega)
    by_cases e : k = n
    · subst e
      have a := gh_N_le (n := k) (fun i hi => h i (by omega))
      omega
    · have a := ih (by omega) (fun i hi => h i (by omega))
      omega
theorem gy_cn_u {m : Nat → Int32} {s : Nat} (hs : s < 80) (h : m s = 0) : gy_cn m < gy_cn (upd m s 1) := by
  unfold gy_cn
  refine gh_N_lt hs (fun i _ => ?_) ?_
  · by_cases h1 : m i = 0
    · rw [if_pos h1]; exact Nat.zero_le _
    · rw [if_neg h1, if_neg (gy_sub_u i h1)]; exact Nat.le_refl _
  · have e : upd m s 1 s = 1 := pk_us
    rw [if_pos h, e]
    decide
theorem gy_cn_1 {m : Nat → Int32} {s : Nat} (hs : s < 80) (h : m s ≠ 0) : 1 ≤ gy_cn m := by
  unfold gy_cn
  have h1 : gh_N (fun s => if m s = 0 then 0 else 1) (s + 1) ≤ gh_N (fun s => if m s = 0 then 0 else 1) 80 := gh_N_part (by omega)
  have e : gh_N (fun s => if m s = 0 then 0 else 1) (s + 1) = gh_N (fun s => if m s = 0 then 0 else 1) s + 1 := by
    show gh_N (fun s => if m s = 0 then 0 else 1) s + (if m s = 0 then 0 else 1) = _
    rw [if_neg h]
  rw [e] at h1
  exact Nat.le_trans (Nat.le_add_left 1 _) h1
section
variable {yn yt yp yk yLk yLf yLp yLs yMi yFu ySt yOv : Int32} {ySe yAg yNr yNd yRc yDc yRo yMk : Nat → Int32} {ids : List Nat} {ag nr nd : Nat → Nat} {rf : Nat → Nat → Nat} {da : Nat → Nat → Int32} {ro : Nat → Nat} {P : Nat} {se : Nat → Nat} {yo : Int32} {R : Nat → Prop}
theorem gy_mark {post : Int32 → SY → Prop} {y : Nat} (hb : gh_bd P ids ag nr nd) (hT : gy_T ids ag nr nd rf da se ySe yAg yNr yNd yRc yDc) (hp : yp = nI P) (hy : y = 0 ∨ y ∈ ids)
    (k0 : (gy_el yo P ids ag y → gy_mk se yMk y) → post 0 (yn, yt, yp, yk, yLk, yLf, yLp, yLs, yMi, yFu, ySt, yOv, ySe, yAg, yNr, yNd, yRc, yDc, yRo, yMk))
    (k1 : ∀ s, s < 80 → se s = y → gy_el yo P ids ag y → yMk s = 0 → post 1 (yn, yt, yp, yk, yLk, yLf, yLp, yLs, yMi, yFu, ySt, yOv, ySe, yAg, yNr, yNd, yRc, yDc, yRo, upd yMk s 1)) : wpY_mark post (yn, yt, yp, yk, yLk, yLf, yLp, yLs, yMi, yFu, ySt, yOv, ySe, yAg, yNr, yNd, yRc, yDc, yRo, yMk) (nI y) yo := by
  have n1 : vp_nar .boolean 1 = 1 := rfl
  unfold wpY_mark
  refine gy_findN hb hT hy (fun s hs hi es => ?_) (fun z => ?_)
  · have hx := hb.2.2 _ hi
    have hP := hb.2.1
    subst es
    refine br_t (nI_pos' (by omega)) ⟨pk_in s 80 hs, ?_⟩
    rw [nI_clamp (by omega), n1]
    refine br_c (fun m0 => br_c (fun hyo => ⟨pk_in s 80 hs, nm_e (k1 s hs rfl ⟨hi, Or.inl hyo⟩ m0)⟩) (fun hyo => ⟨pk_in s 80 hs, ?_⟩)) (fun m0 => k0 (fun _ => ⟨s, hs, rfl, m0⟩))
    rw [(hT.2.1 s hs (by omega)).2.1]
    refine pk_lt (ag (se s)) P (fun h => ⟨pk_in s 80 hs, nm_e (k1 s hs rfl ⟨hi, Or.inr h⟩ m0)⟩) (fun h => k0 (fun e => ?_)) rfl hp
    rcases e.2 with q | q
    · exact absurd q hyo
    · omega
  · refine br_f (by decide) (k0 (fun e => ?_))
    have := hb.2.2 _ e.1
    omega
theorem gy_unmark2 {post : SY → Prop} (k : ∀ m, (∀ s, s < 80 → m s = 0) → post (yn, yt, yp, yk, yLk, yLf, yLp, yLs, yMi, yFu, ySt, yOv, ySe, yAg, yNr, yNd, yRc, yDc, yRo, m)) :
    ∀ (n s : Nat) (yMk : Nat → Int32), 80 - s < n → s ≤ 80 → (∀ t, t < s → yMk t = 0) → wY_unmarkAll_2 post yn yt yp yk yLk yLf yLp yLs yMi yFu ySt yOv n (nI s) ySe yAg yNr yNd yRc yDc yRo yMk := by
  have n0 : vp_nar .boolean 0 = 0 := rfl
  intro n
  induction n with
  | zero => intro s m h; omega
  | succ n ih =>
    intro s m hn hs ha
    refine pk_le 80 s (fun h => k m (fun t ht => ha t (by omega))) (fun h => ⟨pk_in s 80 h, ?_⟩)
    rw [nI_clamp (by omega), n0]
    refine nm_e (nm_r (nI_1 s) (ih (s + 1) _ (by omega) (by omega) ?_))
    intro t ht
    by_cases e : t = s
    · subst e; exact pk_us
    · rw [pk_un e]; exact ha t (by omega)
theorem gy_unmarkAll {post : SY → Prop} (k : ∀ m, (∀ s, s < 80 → m s = 0) → post (yn, yt, yp, yk, yLk, yLf, yLp, yLs, yMi, yFu, ySt, yOv, ySe, yAg, yNr, yNd, yRc, yDc, yRo, m)) : wpY_unmarkAll post (yn, yt, yp, yk, yLk, yLf, yLp, yLs, yMi, yFu, ySt, yOv, ySe, yAg, yNr, yNd, yRc, yDc, yRo, yMk) := by
  unfold wpY_unmarkAll
  exact ⟨81, gy_unmark2 k 81 0 yMk (by omega) (by omega) (fun t ht => by omega)⟩
theorem gy_markRoots2 {post : SY → Prop} (hb : gh_bd P ids ag nr nd) (hT : gy_T ids ag nr nd rf da se ySe yAg yNr yNd yRc yDc) (hp : yp = nI P)
    (hro : ∀ r, r < 8 → yRo r = nI (ro r)) (hro2 : ∀ r, ro r = 0 ∨ ro r ∈ ids) (hR : ∀ r, gy_el yo P ids ag (ro r) → R (ro r))
    (k : ∀ m, gy_M R se m → (∀ r, r < 8 → gy_el yo P ids ag (ro r) → gy_mk se m (ro r)) → post (yn, yt, yp, yk, yLk, yLf, yLp, yLs, yMi, yFu, ySt, yOv, ySe, yAg, yNr, yNd, yRc, yDc, yRo, m)) :
    ∀ (n r : Nat) (yMk : Nat → Int32), 8 - r < n → r ≤ 8 → gy_M R se yMk → (∀ q, q < r → gy_el yo P ids ag (ro q) → gy_mk se yMk (ro q)) → wY_markRoots_2 post yo n (nI r) yn yt yp yk yLk yLf yLp yLs yMi yFu ySt yOv ySe yAg yNr yNd yRc yDc yRo yMk := by
  intro n
  induction n with
  | zero => intro r m h; omega
  | succ n ih =>
    intro r m hn hr hM ha
    refine pk_le 8 r (fun h => k m hM (fun q hq => ha q (by omega))) (fun h => ⟨pk_in r 8 h, ?_⟩)
    rw [nI_clamp (by omega), hro r h]
    refine gy_mark hb hT hp (hro2 r) (fun hm => nm_r (nI_1 r) (ih (r + 1) m (by omega) (by omega) hM ?_)) (fun s hs es e m0 => nm_r (nI_1 r) (ih (r + 1) _ (by omega) (by omega) ?_ ?_))
    · intro q hq e
      by_cases z : q = r
      · subst z; exact hm e
      · exact ha q (by omega) e
    · have := hb.2.2 _ e.1
      refine gy_M_u hM (by omega) ?_
      rw [es]
      exact hR r e
    · intro q hq e'
      by_cases z : q = r
      · subst z
        exact ⟨s, hs, es, by rw [pk_us]; decide⟩
      · exact gy_mk_sub gy_sub_u (ha q (by omega) e')
theorem gy_markRoots {post : SY → Prop} (hb : gh_bd P ids ag nr nd) (hT : gy_T ids ag nr nd rf da se ySe yAg yNr yNd yRc yDc) (hp : yp = nI P)
    (hro : ∀ r, r < 8 → yRo r = nI (ro r)) (hro2 : ∀ r, ro r = 0 ∨ ro r ∈ ids) (hR : ∀ r, gy_el yo P ids ag (ro r) → R (ro r)) (hM : gy_M R se yMk)
    (k : ∀ m, gy_M R se m → (∀ r, r < 8 → gy_el yo P ids ag (ro r) → gy_mk se m (ro r)) → post (yn, yt, yp, yk, yLk, yLf, yLp, yLs, yMi, yFu, ySt, yOv, ySe, yAg, yNr, yNd, yRc, yDc, yRo, m)) : wpY_markRoots post (yn, yt, yp, yk, yLk, yLf, yLp, yLs, yMi, yFu, ySt, yOv, ySe, yAg, yNr, yNd, yRc, yDc, yRo, yMk) yo := by
  unfold wpY_markRoots
  exact ⟨9, gy_markRoots2 hb hT hp hro hro2 hR k 9 0 yMk (by omega) (by omega) hM (fun q hq => by omega)⟩
/-! the closing passes -/
/-- the fields of slot s are marked -/
def gy_cl (yo : Int32) (P : Nat) (ids : List Nat) (ag nr : Nat → Nat) (rf : Nat → Nat → Nat) (se : Nat → Nat) (m : Nat → Int32) (s : Nat) : Prop :=
  ∀ i, i < nr (se s) → gy_el yo P ids ag (rf (se s) i) → gy_mk se m (rf (se s) i)
/-- in pass p, ahead of slot k, with the flag c -/
def gy_I (yo : Int32) (P : Nat) (ids : List Nat) (ag nr : Nat → Nat) (rf : Nat → Nat → Nat) (se : Nat → Nat) (R : Nat → Prop) (p : Nat) (c : Int32) (m : Nat → Int32) (k : Nat) : Prop :=
  gy_M R se m ∧ ((c = 0 ∧ (1 ≤ p → p + 1 ≤ gy_cn m) ∧ ∀ s, s < k → m s ≠ 0 → gy_cl yo P ids ag nr rf se m s) ∨ (c = 1 ∧ p + 2 ≤ gy_cn m))
theorem gy_close39 {post : SY → Prop} {J4 J19 : Int32 → Int32 → Int32 → Int32 → Int32 → Int32 → Int32 → Int32 → Int32 → Int32 → Int32 → Int32 → Int32 → Int32 → (Nat → Int32) → (Nat → Int32) → (Nat → Int32) → (Nat → Int32) → (Nat → Int32) → (Nat → Int32) → (Nat → Int32) → (Nat → Int32) → Prop}
    {p s : Nat} (hb : gh_bd P ids ag nr nd) (hT : gy_T ids ag nr nd rf da se ySe yAg yNr yNd yRc yDc) (hp : yp = nI P)
    (hrf : ∀ x i, x ∈ ids → i < nr x → rf x i = 0 ∨ rf x i ∈ ids) (hR : ∀ x i, R x → i < nr x → gy_el yo P ids ag (rf x i) → R (rf x i)) (hs : s < 80)
    {m0 : Nat → Int32}
    (k : ∀ c m, gy_I yo P ids ag nr rf se R p c m (s + 1) → gy_sub m0 m → J19 c (nI (s + 1)) yn yt yp yk yLk yLf yLp yLs yMi yFu ySt yOv ySe yAg yNr yNd yRc yDc yRo m) :
    ∀ (n i : Nat) (c : Int32) (yMk : Nat → Int32), nr (se s) - i < n → i ≤ nr (se s) → gy_I yo P ids ag nr rf se R p c yMk s → yMk s ≠ 0 → gy_sub m0 yMk →
      (c = 0 → ∀ j, j < i → gy_el yo P ids ag (rf (se s) j) → gy_mk se yMk (rf (se s) j)) → wY_closeMarks_39 post J4 J19 yo (nI p) (nI s) n c (nI i) yn yt yp yk yLk yLf yLp yLs yMi yFu ySt yOv ySe yAg yNr yNd yRc yDc yRo yMk := by
  intro n
  induction n with
  | zero => intro i c m h; omega
  | succ n ih =>
    intro i c m hn hi hI hm hsub hc
    have h0 := (hI.1 s hs hm).1
    have hRs := (hI.1 s hs hm).2
    obtain ⟨hid, e1, e2, e3, e4, _⟩ := hT.2.1 s hs h0
    have hx := hb.2.2 _ hid
    refine ⟨pk_in s 80 hs, ?_⟩
    rw [nI_clamp (by omega), e2]
    refine pk_le (nr (se s)) i (fun h => nm_r (nI_1 s) (k c m ⟨hI.1, ?_⟩ hsub)) (fun h => ?_)
    · rcases hI.2 with ⟨c0, h1, h2⟩ | ⟨c1, h1⟩
      · refine Or.inl ⟨c0, h1, ?_⟩
        intro t ht hmt
        by_cases z : t = s
        · subst z
          intro j hj e
          exact hc c0 j (by omega) e
        · exact h2 t (by omega) hmt
      · exact Or.inr ⟨c1, h1⟩
    · have ei : (3 : Int32) * nI s + nI i = nI (3 * s + i) := by
        rw [← nI_add, ← pk_mul]; rfl
      rw [ei]
      refine ⟨pk_in (3 * s + i) 240 (by omega), ?_⟩
      rw [nI_clamp (by omega), e4 i h]
      refine gy_mark hb hT hp (hrf _ i hid h) (fun hk => br_t rfl (nm_r (nI_1 i) (ih (i + 1) c m (by omega) (by omega) hI hm hsub ?_))) (fun t ht et e t0 => br_f (by decide) (nm_r (nI_1 i) (ih (i + 1) 1 _ (by omega) (by omega) ?_ (gy_sub_u s hm) (gy_sub_t hsub gy_sub_u) ?_)))
      · intro c0 j hj e
        by_cases z : j = i
        · subst z; exact hk e
        · exact hc c0 j (by omega) e
      · have hy := hb.2.2 _ e.1
        refine ⟨gy_M_u hI.1 (by omega) (by rw [et]; exact hR _ i hRs h e), Or.inr ⟨rfl, ?_⟩⟩
        have h1 := gy_cn_u ht t0
        have h2 := gy_cn_1 hs hm
        rcases hI.2 with ⟨c0, h3, _⟩ | ⟨c1, h3⟩
        · by_cases z : 1 ≤ p
          · have := h3 z; omega
          · omega
        · omega
      · intro c0
        exact absurd c0 (by decide)
theorem gy_close19 {post : SY → Prop} {J4 : Int32 → Int32 → Int32 → Int32 → Int32 → Int32 → Int32 → Int32 → Int32 → Int32 → Int32 → Int32 → Int32 → Int32 → (Nat → Int32) → (Nat → Int32) → (Nat → Int32) → (Nat → Int32) → (Nat → Int32) → (Nat → Int32) → (Nat → Int32) → (Nat → Int32) → Prop}
    {p : Nat} (hb : gh_bd P ids ag nr nd) (hT : gy_T ids ag nr nd rf da se ySe yAg yNr yNd yRc yDc) (hp : yp = nI P)
    (hrf : ∀ x i, x ∈ ids → i < nr x → rf x i = 0 ∨ rf x i ∈ ids) (hR : ∀ x i, R x → i < nr x → gy_el yo P ids ag (rf x i) → R (rf x i))
    {m0 : Nat → Int32}
    (k : ∀ c m, gy_I yo P ids ag nr rf se R p c m 80 → gy_sub m0 m → J4 c (nI (p + 1)) yn yt yp yk yLk yLf yLp yLs yMi yFu ySt yOv ySe yAg yNr yNd yRc yDc yRo m) :
    ∀ (n s : Nat) (c : Int32) (yMk : Nat → Int32), 80 - s < n → s ≤ 80 → gy_I yo P ids ag nr rf se R p c yMk s → gy_sub m0 yMk → wY_closeMarks_19 post J4 yo (nI p) n c (nI s) yn yt yp yk yLk yLf yLp yLs yMi yFu ySt yOv ySe yAg yNr yNd yRc yDc yRo yMk := by
  intro n
  induction n with
  | zero => intro s c m h; omega
  | succ n ih =>
    intro s c m hn hs hI hsub
    refine pk_le 80 s (fun h => nm_r (nI_1 p) ?_) (fun h => ⟨pk_in s 80 h, ?_⟩)
    · have : s = 80 := by omega
      subst this
      exact k c m hI hsub
    · rw [nI_clamp (by omega)]
      refine br_c (fun hm => nm_r (nI_1 s) (ih (s + 1) c m (by omega) (by omega) ⟨hI.1, ?_⟩ hsub)) (fun hm => ⟨nr (se s) + 1, ?_⟩)
      · rcases hI.2 with ⟨c0, h1, h2⟩ | ⟨c1, h1⟩
        · refine Or.inl ⟨c0, h1, ?_⟩
          intro t ht hmt
          by_cases z : t = s
          · subst z; exact absurd hm hmt
          · exact h2 t (by omega) hmt
        · exact Or.inr ⟨c1, h1⟩
      · exact gy_close39 hb hT hp hrf hR h (fun c' m' hI' hs' => ih (s + 1) c' m' (by omega) (by omega) hI' hs') (nr (se s) + 1) 0 c m (by omega) (by omega) hI hm hsub (fun _ j hj => by omega)
theorem gy_close4 {post : SY → Prop} (hb : gh_bd P ids ag nr nd) (hT : gy_T ids ag nr nd rf da se ySe yAg yNr yNd yRc yDc) (hp : yp = nI P)
    (hrf : ∀ x i, x ∈ ids → i < nr x → rf x i = 0 ∨ rf x i ∈ ids) (hR : ∀ x i, R x → i < nr x → gy_el yo P ids ag (rf x i) → R (rf x i))
    {m0 : Nat → Int32}
    (k : ∀ m, gy_M R se m → gy_sub m0 m → (∀ s, s < 80 → m s ≠ 0 → gy_cl yo P ids ag nr rf se m s) → post (yn, yt, yp, yk, yLk, yLf, yLp, yLs, yMi, yFu, ySt, yOv, ySe, yAg, yNr, yNd, yRc, yDc, yRo, m)) :
    ∀ (n p : Nat) (c : Int32) (yMk : Nat → Int32), 80 - p < n → p ≤ 80 → gy_M R se yMk → gy_sub m0 yMk →
      ((c = 0 ∧ ∀ s, s < 80 → yMk s ≠ 0 → gy_cl yo P ids ag nr rf se yMk s) ∨ (c = 1 ∧ (1 ≤ p → p + 1 ≤ gy_cn yMk))) → wY_closeMarks_4 post yo n c (nI p) yn yt yp yk yLk yLf yLp yLs yMi yFu ySt yOv ySe yAg yNr yNd yRc yDc yRo yMk := by
  intro n
  induction n with
  | zero => intro p c m h; omega
  | succ n ih =>
    intro p c m hn hp80 hM hsub hc
    refine pk_le 80 p (fun h => ?_) (fun h => br_c (fun c0 => ?_) (fun c0 => ⟨81, ?_⟩))
    · rcases hc with ⟨c0, h1⟩ | ⟨c1, h1⟩
      · exact k m hM hsub h1
      · have h2 := h1 (by omega)
        have h3 := gy_cn_le (m := m)
        omega
    · rcases hc with ⟨_, h1⟩ | ⟨c1, h1⟩
      · exact k m hM hsub h1
      · rw [c1] at c0; exact absurd c0 (by decide)
    · rcases hc with ⟨c0', h1⟩ | ⟨c1, h1⟩
      · exact absurd c0' c0
      · refine gy_close19 hb hT hp hrf hR (fun c' m' hI' hs' => ih (p + 1) c' m' (by omega) (by omega) hI'.1 hs' ?_) 81 0 0 m (by omega) (by omega) ⟨hM, Or.inl ⟨rfl, h1, fun s hs => by omega⟩⟩ hsub
        rcases hI'.2 with ⟨c0, _, h2⟩ | ⟨c1, h2⟩
        · exact Or.inl ⟨c0, h2⟩
        · exact Or.inr ⟨c1, fun _ => by omega⟩
theorem gy_closeMarks {post : SY → Prop} (hb : gh_bd P ids ag nr nd) (hT : gy_T ids ag nr nd rf da se ySe yAg yNr yNd yRc yDc) (hp : yp = nI P)
    (hrf : ∀ x i, x ∈ ids → i < nr x → rf x i = 0 ∨ rf x i ∈ ids) (hR : ∀ x i, R x → i < nr x → gy_el yo P ids ag (rf x i) → R (rf x i)) (hM : gy_M R se yMk)
    (k : ∀ m, gy_M R se m → gy_sub yMk m → (∀ s, s < 80 → m s ≠ 0 → gy_cl yo P ids ag nr rf se m s) → post (yn, yt, yp, yk, yLk, yLf, yLp, yLs, yMi, yFu, ySt, yOv, ySe, yAg, yNr, yNd, yRc, yDc, yRo, m)) : wpY_closeMarks post (yn, yt, yp, yk, yLk, yLf, yLp, yLs, yMi, yFu, ySt, yOv, ySe, yAg, yNr, yNd, yRc, yDc, yRo, yMk) yo := by
  unfold wpY_closeMarks
  exact ⟨81, gy_close4 hb hT hp hrf hR k 81 0 1 yMk (by omega) (by omega) hM gy_sub_r (Or.inr ⟨rfl, fun h => by omega⟩)⟩
end
end
section
/-! the model's collections -/
section
variable {yn yt yp yk yLk yLf yLp yLs yMi yFu ySt yOv : Int32} {ySe yAg yNr yNd yRc yDc yRo yMk : Nat → Int32} {ids : List Nat} {ag nr nd : Nat → Nat} {rf : Nat → Nat → Nat} {da : Nat → Nat → Int32} {ro : Nat → Nat} {P : Nat} {se : Nat → Nat} {yo : Int32} {R : Nat → Prop}
/-- at the end the marks are the least set -/
theorem gy_exact {sd : Nat → Prop} (hT : gy_T ids ag nr nd rf da se ySe yAg yNr yNd yRc yDc) {m : Nat → Int32} (hM : gy_M (gh_rch (gy_el yo P ids ag) sd nr rf) se m)
    (hs : ∀ y, sd y → gy_el yo P ids ag y → gy_mk se m y) (hc : ∀ s, s < 80 → m s ≠ 0 → gy_cl yo P ids ag nr rf se m s) :
    ∀ s, s < 80 → se s ≠ 0 → (m s ≠ 0 ↔ gh_rch (gy_el yo P ids ag) sd nr rf (se s)) := by
  intro s hs80 h0
  refine ⟨fun h => (hM s hs80 h).2, fun h => ?_⟩
  have hk : gy_mk se m (se s) := by
    refine h (gy_mk se m) hs ?_
    intro y i hy hi e
    obtain ⟨t, ht, et, hm⟩ := hy
    subst et
    exact hc t ht hm i hi e
  obtain ⟨t, ht, et, hm⟩ := hk
  have := hT.2.2.2 s t hs80 ht h0 et.symm
  subst this
  exact hm
theorem gy_weight' {post : Int32 → Prop} {s x : Nat} (hs : s < 80) (e2 : yNr s = nI (nr x)) (e3 : yNd s = nI (nd x))
    (k : post (nI (gh_w nr nd x))) : wpY_weight post (yn, yt, yp, yk, yLk, yLf, yLp, yLs, yMi, yFu, ySt, yOv, ySe, yAg, yNr, yNd, yRc, yDc, yRo, yMk) (nI s) := by
  unfold wpY_weight
  refine ⟨pk_in s 80 hs, pk_in s 80 hs, ?_⟩
  rw [nI_clamp (by omega), e2, e3]
  have e : (2 : Int32) + nI (nr x) + nI (nd x) = nI (gh_w nr nd x) := by
    unfold gh_w
    rw [← nI_add, ← nI_add]
    rfl
  rw [e]
  exact k
theorem gy_markedW4 {post : Int32 → Prop} {a : Nat} (ha : a ≤ 3) (hb : gh_bd P ids ag nr nd) (hT : gy_T ids ag nr nd rf da se ySe yAg yNr yNd yRc yDc)
    (hK : ∀ s, s < 80 → se s ≠ 0 → (yMk s ≠ 0 ↔ R (se s)))
    (k : post (nI (gh_N (fun s => if se s = 0 then 0 else if gh_bl (R (se s)) = true ∧ ag (se s) = a then gh_w nr nd (se s) else 0) 80))) :
    ∀ (n s : Nat), 80 - s < n → s ≤ 80 → wY_markedWeight_4 post (nI a) yn yt yp yk yLk yLf yLp yLs yMi yFu ySt yOv ySe yAg yNr yNd yRc yDc yRo yMk n (nI (gh_N (fun s => if se s = 0 then 0 else if gh_bl (R (se s)) = true ∧ ag (se s) = a then gh_w nr nd (se s) else 0) s)) (nI s) := by
  intro n
  induction n with
  | zero => intro s h; omega
  | succ n ih =>
    intro s hn hs
    refine pk_le 80 s (fun h => ?_) (fun h => ⟨pk_in s 80 h, ?_⟩)
    · have : s = 80 := by omega
      subst this
      exact k
    · have I := ih (s + 1) (by omega) (by omega)
      rw [nI_clamp (by omega), hT.1 s h]
      by_cases z : se s = 0
      · refine br_t (by rw [z]; rfl) (nm_r (nI_1 s) ?_)
        simp only [gh_N, if_pos z, Nat.add_zero] at I
        exact I
      · obtain ⟨hid, e1, _⟩ := hT.2.1 s h z
        have hx := hb.2.2 _ hid
        have hP := hb.2.1
        refine br_f (nI_ne0 (by omega) (by omega)) ⟨pk_in s 80 h, br_c (fun m0 => nm_r (nI_1 s) ?_) (fun m0 => ⟨pk_in s 80 h, ?_⟩)⟩
        · have hr : ¬ (gh_bl (R (se s)) = true ∧ ag (se s) = a) := fun c => (hK s h z).mpr (gh_bl_iff.mp c.1) m0
          simp only [gh_N, if_neg z, if_neg hr, Nat.add_zero] at I
          exact I
        · have hr : gh_bl (R (se s)) = true := gh_bl_iff.mpr ((hK s h z).mp m0)
          rw [e1]
          refine pk_eq (ag (se s)) a (fun q => gy_weight hT h z (nm_r (nI_add _ _) (nm_r (nI_1 s) ?_))) (fun q => nm_r (nI_1 s) ?_)
          · simp only [gh_N, if_neg z, if_pos (And.intro hr q)] at I
            exact I
          · simp only [gh_N, if_neg z, if_neg (fun c : gh_bl (R (se s)) = true ∧ ag (se s) = a => q c.2), Nat.add_zero] at I
            exact I
theorem gy_markedWeight {post : Int32 → Prop} {a : Nat} (ha : a ≤ 3) (hn : ids.Nodup) (hb : gh_bd P ids ag nr nd) (hT : gy_T ids ag nr nd rf da se ySe yAg yNr yNd yRc yDc)
    (hK : ∀ s, s < 80 → se s ≠ 0 → (yMk s ≠ 0 ↔ R (se s))) (k : post (nI (gh_mw R ag (gh_w nr nd) ids a))) : wpY_markedWeight post (yn, yt, yp, yk, yLk, yLf, yLp, yLs, yMi, yFu, ySt, yOv, ySe, yAg, yNr, yNd, yRc, yDc, yRo, yMk) (nI a) := by
  have e := gy_sum hn (fun x hx => by have := hb.2.2 x hx; omega) hT (fun x => if gh_bl (R x) = true ∧ ag x = a then gh_w nr nd x else 0)
  unfold gh_mw at k
  rw [← e] at k
  unfold wpY_markedWeight
  exact ⟨81, gy_markedW4 ha hb hT hK k 81 0 (by omega) (by omega)⟩
theorem gy_drop4 {post : Int32 → SY → Prop} {Kp : Nat → Prop} (hb : gh_bd P ids ag nr nd) (hT : gy_T ids ag nr nd rf da se ySe yAg yNr yNd yRc yDc) (hp : yp = nI P)
    (hK : ∀ s, s < 80 → se s ≠ 0 → (yMk s ≠ 0 ↔ R (se s))) (hKp : ∀ x, x ∈ ids → (Kp x ↔ R x ∨ (yo ≠ 0 ∧ P ≤ ag x)))
    (k : ∀ q, (∀ t, t < 80 → q t = nI (gh_ite (Kp (se t)) (se t) 0)) → post (nI (gh_N (fun s => if se s = 0 then 0 else if gh_bl (Kp (se s)) = true then 0 else gh_w nr nd (se s)) 80)) (yn, yt, yp, yk, yLk, yLf, yLp, yLs, yMi, yFu, ySt, yOv, q, yAg, yNr, yNd, yRc, yDc, yRo, yMk)) :
    ∀ (n s : Nat) (q : Nat → Int32), 80 - s < n → s ≤ 80 → (∀ t, t < 80 → q t = nI (if t < s then gh_ite (Kp (se t)) (se t) 0 else se t)) →
      wY_dropUnmarked_4 post yo yn yt yp yk yLk yLf yLp yLs yMi yFu ySt yOv n (nI (gh_N (fun s => if se s = 0 then 0 else if gh_bl (Kp (se s)) = true then 0 else gh_w nr nd (se s)) s)) (nI s) q yAg yNr yNd yRc yDc yRo yMk := by
  intro n
  induction n with
  | zero => intro s q h; omega
  | succ n ih =>
    intro s q hn hs hq
    refine pk_le 80 s (fun h => ?_) (fun h => ⟨pk_in s 80 h, ?_⟩)
    · have : s = 80 := by omega
      subst this
      refine k q (fun t ht => ?_)
      rw [hq t ht, if_pos ht]
    · have qs : q s = nI (se s) := by rw [hq s h, if_neg (by omega)]
      rw [nI_clamp (by omega), qs]
      have stay : gh_ite (Kp (se s)) (se s) 0 = se s → ∀ t, t < 80 → q t = nI (if t < s + 1 then gh_ite (Kp (se t)) (se t) 0 else se t) := by
        intro e t ht
        by_cases z : t = s
        · subst z; rw [if_pos (by omega), e, qs]
        · rw [hq t ht]
          by_cases z2 : t < s
          · rw [if_pos z2, if_pos (by omega)]
          · rw [if_neg z2, if_neg (by omega)]
      by_cases z : se s = 0
      · refine br_t (by rw [z]; rfl) (nm_r (nI_1 s) ?_)
        have I := ih (s + 1) q (by omega) (by omega) (stay (by
          by_cases c : Kp (se s)
          · exact gh_ite_t c
          · rw [gh_ite_f c, z]))
        simp only [gh_N, if_pos z, Nat.add_zero] at I
        exact I
      · obtain ⟨hid, e1, e2, e3, _⟩ := hT.2.1 s h z
        have hx := hb.2.2 _ hid
        have hP := hb.2.1
        have keep : Kp (se s) → wY_dropUnmarked_4 post yo yn yt yp yk yLk yLf yLp yLs yMi yFu ySt yOv n (nI (gh_N (fun s => if se s = 0 then 0 else if gh_bl (Kp (se s)) = true then 0 else gh_w nr nd (se s)) s)) (nI (s + 1)) q yAg yNr yNd yRc yDc yRo yMk := by
          intro c
          have I := ih (s + 1) q (by omega) (by omega) (stay (gh_ite_t c))
          simp only [gh_N, if_neg z, if_pos (gh_bl_iff.mpr c), Nat.add_zero] at I
          exact I
        have drop : ¬ Kp (se s) → wY_dropUnmarked_45 post (wY_dropUnmarked_4 post yo yn yt yp yk yLk yLf yLp yLs yMi yFu ySt yOv n) yo (nI (gh_N (fun s => if se s = 0 then 0 else if gh_bl (Kp (se s)) = true then 0 else gh_w nr nd (se s)) s)) (nI s) yn yt yp yk yLk yLf yLp yLs yMi yFu ySt yOv q yAg yNr yNd yRc yDc yRo yMk := by
          intro c
          have I := ih (s + 1) (upd q s 0) (by omega) (by omega) (by
            intro t ht
            by_cases z : t = s
            · subst z; rw [pk_us, if_pos (by omega), gh_ite_f c]; rfl
            · rw [pk_un z, hq t ht]
              by_cases z2 : t < s
              · rw [if_pos z2, if_pos (by omega)]
              · rw [if_neg z2, if_neg (by omega)])
          simp only [gh_N, if_neg z, if_neg (fun d => c (gh_bl_iff.mp d))] at I
          unfold wY_dropUnmarked_45
          refine gy_weight' h e2 e3 (nm_r (nI_add _ _) ⟨pk_in s 80 h, ?_⟩)
          rw [nI_clamp (by omega)]
          exact nm_e (nm_r (nI_1 s) I)
        refine br_f (nI_ne0 (by omega) (by omega)) ⟨pk_in s 80 h, br_c (fun m0 => ?_) (fun m0 => nm_r (nI_1 s) (keep ((hKp _ hid).mpr (Or.inl ((hK s h z).mp m0)))))⟩
        have nR : ¬ R (se s) := fun c => (hK s h z).mpr c m0
        refine br_c (fun y0 => drop (fun c => ?_)) (fun y0 => ⟨pk_in s 80 h, ?_⟩)
        · rcases (hKp _ hid).mp c with d | d
          · exact nR d
          · exact d.1 y0
        · rw [e1]
          refine pk_le P (ag (se s)) (fun h2 => nm_r (nI_1 s) (keep ((hKp _ hid).mpr (Or.inr ⟨y0, h2⟩)))) (fun h2 => drop (fun c => ?_)) hp
          rcases (hKp _ hid).mp c with d | d
          · exact nR d
          · omega
theorem gy_dropUnmarked {post : Int32 → SY → Prop} {Kp : Nat → Prop} (hn : ids.Nodup) (hb : gh_bd P ids ag nr nd) (hT : gy_T ids ag nr nd rf da se ySe yAg yNr yNd yRc yDc) (hp : yp = nI P)
    (hK : ∀ s, s < 80 → se s ≠ 0 → (yMk s ≠ 0 ↔ R (se s))) (hKp : ∀ x, x ∈ ids → (Kp x ↔ R x ∨ (yo ≠ 0 ∧ P ≤ ag x)))
    (k : ∀ q, (∀ t, t < 80 → q t = nI (gh_ite (Kp (se t)) (se t) 0)) → post (nI (gh_dw Kp (gh_w nr nd) ids)) (yn, yt, yp, yk, yLk, yLf, yLp, yLs, yMi, yFu, ySt, yOv, q, yAg, yNr, yNd, yRc, yDc, yRo, yMk)) : wpY_dropUnmarked post (yn, yt, yp, yk, yLk, yLf, yLp, yLs, yMi, yFu, ySt, yOv, ySe, yAg, yNr, yNd, yRc, yDc, yRo, yMk) yo := by
  have e := gy_sum hn (fun x hx => by have := hb.2.2 x hx; omega) hT (fun x => if gh_bl (Kp x) = true then 0 else gh_w nr nd x)
  unfold gh_dw at k
  rw [← e] at k
  unfold wpY_dropUnmarked
  refine ⟨81, gy_drop4 hb hT hp hK hKp k 81 0 ySe (by omega) (by omega) ?_⟩
  intro t ht
  rw [if_neg (by omega)]
  exact hT.1 t ht
theorem gy_T_drop {Kp : Nat → Prop} {q : Nat → Int32} (hT : gy_T ids ag nr nd rf da se ySe yAg yNr yNd yRc yDc) (h0 : ∀ x, x ∈ ids → x ≠ 0) (hq : ∀ t, t < 80 → q t = nI (gh_ite (Kp (se t)) (se t) 0)) :
    gy_T (gh_kp Kp ids) ag nr nd rf da (fun t => gh_ite (Kp (se t)) (se t) 0) q yAg yNr yNd yRc yDc := by
  obtain ⟨h1, h2, h3, h4⟩ := hT
  have hne : ∀ s, gh_ite (Kp (se s)) (se s) 0 ≠ 0 → Kp (se s) ∧ gh_ite (Kp (se s)) (se s) 0 = se s ∧ se s ≠ 0 := by
    intro s h
    by_cases c : Kp (se s)
    · rw [gh_ite_t c] at h
      exact ⟨c, gh_ite_t c, h⟩
    · rw [gh_ite_f c] at h
      exact absurd rfl h
  refine ⟨hq, ?_, ?_, ?_⟩
  · intro s hs h
    obtain ⟨c, e, z⟩ := hne s h
    have h2' := h2 s hs z
    dsimp only
    rw [e]
    exact ⟨gh_kp_mem.mpr ⟨h2'.1, c⟩, h2'.2⟩
  · intro x hx
    obtain ⟨hx1, hx2⟩ := gh_kp_mem.mp hx
    obtain ⟨s, hs, es⟩ := h3 x hx1
    refine ⟨s, hs, ?_⟩
    subst es
    exact gh_ite_t hx2
  · intro s t hs ht h e
    obtain ⟨c, e1, z⟩ := hne s h
    have ht' : gh_ite (Kp (se t)) (se t) 0 ≠ 0 := by
      intro c
      apply h
      exact e.trans c
    obtain ⟨_, e2, _⟩ := hne t ht'
    exact h4 s t hs ht z (e1.symm.trans (e.trans e2))
theorem gy_raise2 {post : SY → Prop} (hb : gh_bd P ids ag nr nd) (hT : gy_T ids ag nr nd rf da se ySe yAg yNr yNd yRc yDc) (hp : yp = nI P)
    (hK : ∀ s, s < 80 → se s ≠ 0 → ag (se s) < P → yMk s ≠ 0)
    (k : ∀ q, (∀ t, t < 80 → se t ≠ 0 → q t = nI (gh_up P ag (se t))) → post (yn, yt, yp, yk, yLk, yLf, yLp, yLs, yMi, yFu, ySt, yOv, ySe, q, yNr, yNd, yRc, yDc, yRo, yMk)) :
    ∀ (n s : Nat) (q : Nat → Int32), 80 - s < n → s ≤ 80 → (∀ t, t < 80 → se t ≠ 0 → q t = nI (if t < s then gh_up P ag (se t) else ag (se t))) →
      wY_raiseAges_2 post yn yt yp yk yLk yLf yLp yLs yMi yFu ySt yOv n (nI s) ySe q yNr yNd yRc yDc yRo yMk := by
  intro n
  induction n with
  | zero => intro s q h; omega
  | succ n ih =>
    intro s q hn hs hq
    refine pk_le 80 s (fun h => ?_) (fun h => ⟨pk_in s 80 h, ?_⟩)
    · have : s = 80 := by omega
      subst this
      refine k q (fun t ht h0 => ?_)
      rw [hq t ht h0, if_pos ht]
    · rw [nI_clamp (by omega), hT.1 s h]
      have stay : (se s ≠ 0 → gh_up P ag (se s) = ag (se s)) → wY_raiseAges_2 post yn yt yp yk yLk yLf yLp yLs yMi yFu ySt yOv n (nI (s + 1)) ySe q yNr yNd yRc yDc yRo yMk := by
        intro c
        refine ih (s + 1) q (by omega) (by omega) ?_
        intro t ht h0
        rw [hq t ht h0]
        by_cases z : t = s
        · subst z
          rw [if_neg (by omega), if_pos (by omega), c h0]
        · by_cases z2 : t < s
          · rw [if_pos z2, if_pos (by omega)]
          · rw [if_neg z2, if_neg (by omega)]
      by_cases z : se s = 0
      · exact br_t (by rw [z]; rfl) (nm_r (nI_1 s) (stay (fun c => absurd z c)))
      · have qs : q s = nI (ag (se s)) := by rw [hq s h z, if_neg (by omega)]
        have hx := hb.2.2 _ (hT.2.1 s h z).1
        have hP := hb.2.1
        refine br_f (nI_ne0 (by omega) (by omega)) ⟨pk_in s 80 h, br_c (fun m0 => nm_r (nI_1 s) (stay (fun _ => ?_))) (fun m0 => ⟨pk_in s 80 h, ?_⟩)⟩
        · unfold gh_up
          by_cases a : ag (se s) < P
          · exact absurd m0 (hK s h z a)
          · rw [if_neg a]
        · rw [qs]
          refine pk_le P (ag (se s)) (fun h2 => nm_r (nI_1 s) (stay (fun _ => ?_))) (fun h2 => ⟨pk_in s 80 h, pk_in s 80 h, nm_r (e' := upd q s (nI (ag (se s) + 1))) ?_ (nm_r (nI_1 s) (ih (s + 1) _ (by omega) (by omega) ?_))⟩) hp
          · unfold gh_up
            rw [if_neg (by omega)]
          · rw [nI_1]
          · intro t ht h0
            by_cases z2 : t = s
            · subst z2
              rw [pk_us, if_pos (by omega)]
              unfold gh_up
              rw [if_pos h2]
            · rw [pk_un z2, hq t ht h0]
              by_cases z3 : t < s
              · rw [if_pos z3, if_pos (by omega)]
              · rw [if_neg z3, if_neg (by omega)]
theorem gy_raiseAges {post : SY → Prop} (hb : gh_bd P ids ag nr nd) (hT : gy_T ids ag nr nd rf da se ySe yAg yNr yNd yRc yDc) (hp : yp = nI P)
    (hK : ∀ s, s < 80 → se s ≠ 0 → ag (se s) < P → yMk s ≠ 0)
    (k : ∀ q, gy_T ids (gh_up P ag) nr nd rf da se ySe q yNr yNd yRc yDc → post (yn, yt, yp, yk, yLk, yLf, yLp, yLs, yMi, yFu, ySt, yOv, ySe, q, yNr, yNd, yRc, yDc, yRo, yMk)) : wpY_raiseAges post (yn, yt, yp, yk, yLk, yLf, yLp, yLs, yMi, yFu, ySt, yOv, ySe, yAg, yNr, yNd, yRc, yDc, yRo, yMk) := by
  unfold wpY_raiseAges
  refine ⟨81, gy_raise2 hb hT hp hK (fun q hq => k q ?_) 81 0 yAg (by omega) (by omega) ?_⟩
  · obtain ⟨h1, h2, h3, h4⟩ := hT
    refine ⟨h1, ?_, h3, h4⟩
    intro s hs h0
    obtain ⟨g1, g2, g3⟩ := h2 s hs h0
    exact ⟨g1, hq s hs h0, g3⟩
  · intro t ht h0
    rw [if_neg (by omega)]
    exact (hT.2.1 t ht h0).2.1
end
end
section
/-! the model's full and minor collections as a whole -/
section
variable {yn yt yp yk yLk yLf yLp yLs yMi yFu ySt yOv : Int32} {ySe yAg yNr yNd yRc yDc yRo yMk : Nat → Int32} {ids : List Nat} {ag nr nd : Nat → Nat} {rf : Nat → Nat → Nat} {da : Nat → Nat → Int32} {ro : Nat → Nat} {N T P K la : Nat} {se : Nat → Nat} {R : Nat → Prop} {st : Nat → Int32}
theorem gh_mw_le {w : Nat → Nat} {a : Nat} : gh_mw R ag w ids a ≤ gh_S w ids := by
  unfold gh_mw
  refine gh_S_mono (fun x _ => ?_)
  by_cases c : gh_bl (R x) = true ∧ ag x = a
  · rw [if_pos c]; exact Nat.le_refl _
  · rw [if_neg c]; exact Nat.zero_le _
theorem gh_tot160 (wf : gh_WF N T P K ids ag nr nd rf ro la) : gh_S (gh_w nr nd) ids ≤ 160 := by
  have h1 := gh_tot wf
  have h2 := gh_PN wf
  have h3 : gh_as ag (gh_w nr nd) ids P ≤ T := wf.2.2.2.2.2.2.2
  have h4 : T ≤ 64 := wf.1.2.2.2.1
  omega
theorem gy_elF : gy_el 0 P ids ag = gh_elF ids := funext fun x => propext ⟨fun h => h.1, fun h => ⟨h, Or.inl rfl⟩⟩
theorem gy_elM : gy_el 1 P ids ag = gh_elM P ids ag := funext fun x => propext ⟨fun h => ⟨h.1, by
  rcases h.2 with c | c
  · exact absurd c (by decide)
  · exact c⟩, fun h => ⟨h.1, Or.inr h.2⟩⟩
theorem gh_full_t (h : gh_mw (gh_RF ids nr rf ro) ag (gh_w nr nd) ids P + gh_mw (gh_RF ids nr rf ro) ag (gh_w nr nd) ids (P - 1) ≤ T) :
    gh_full T P ids ag nr nd rf ro st = (2, gh_kp (gh_RF ids nr rf ro) ids, gh_up P ag, upd (upd (upd (upd st 5 (st 5 + 1)) 0 2) 1 (nI (gh_dw (gh_RF ids nr rf ro) (gh_w nr nd) ids))) 2 (nI (gh_mw (gh_RF ids nr rf ro) ag (gh_w nr nd) ids (P - 1)))) := if_pos h
theorem gh_full_f (h : ¬ gh_mw (gh_RF ids nr rf ro) ag (gh_w nr nd) ids P + gh_mw (gh_RF ids nr rf ro) ag (gh_w nr nd) ids (P - 1) ≤ T) :
    gh_full T P ids ag nr nd rf ro st = (3, gh_kp (gh_RF ids nr rf ro) ids, ag, upd (upd (upd (upd st 6 (st 6 + 1)) 0 3) 1 (nI (gh_dw (gh_RF ids nr rf ro) (gh_w nr nd) ids))) 2 0) := if_neg h
theorem gh_minor_t (h : gh_as ag (gh_w nr nd) ids P + gh_mw (gh_RM P ids ag nr rf ro) ag (gh_w nr nd) ids (P - 1) ≤ T) :
    gh_minor T P ids ag nr nd rf ro st = (1, gh_kp (gh_KM P ids ag nr rf ro) ids, gh_up P ag, upd (upd (upd (upd st 4 (st 4 + 1)) 0 1) 1 (nI (gh_dw (gh_KM P ids ag nr rf ro) (gh_w nr nd) ids))) 2 (nI (gh_mw (gh_RM P ids ag nr rf ro) ag (gh_w nr nd) ids (P - 1)))) := if_pos h
theorem gh_minor_f (h : ¬ gh_as ag (gh_w nr nd) ids P + gh_mw (gh_RM P ids ag nr rf ro) ag (gh_w nr nd) ids (P - 1) ≤ T) :
    gh_minor T P ids ag nr nd rf ro st = gh_full T P ids ag nr nd rf ro (upd st 7 (st 7 + 1)) := if_neg h
theorem gh_full_0 : (gh_full T P ids ag nr nd rf ro st).2.2.2 0 = (gh_full T P ids ag nr nd rf ro st).1 := by
  by_cases h : gh_mw (gh_RF ids nr rf ro) ag (gh_w nr nd) ids P + gh_mw (gh_RF ids nr rf ro) ag (gh_w nr nd) ids (P - 1) ≤ T
  · rw [gh_full_t h]; rfl
  · rw [gh_full_f h]; rfl
theorem gh_minor_0 : (gh_minor T P ids ag nr nd rf ro st).2.2.2 0 = (gh_minor T P ids ag nr nd rf ro st).1 := by
  by_cases h : gh_as ag (gh_w nr nd) ids P + gh_mw (gh_RM P ids ag nr rf ro) ag (gh_w nr nd) ids (P - 1) ≤ T
  · rw [gh_minor_t h]; rfl
  · rw [gh_minor_f h]; exact gh_full_0
theorem gh_Pm1 (hP : 1 ≤ P) : nI P - 1 = nI (P - 1) := by
  have h := nI_pred (P - 1)
  rwa [Nat.sub_add_cancel hP] at h
theorem gy_runFull {post : SY → Prop} (wf : gh_WF N T P K ids ag nr nd rf ro la) (h : gy_R N T P K ids ag nr nd rf da ro st (yn, yt, yp, yk, yLk, yLf, yLp, yLs, yMi, yFu, ySt, yOv, ySe, yAg, yNr, yNd, yRc, yDc, yRo, yMk))
    (k : ∀ v, gy_R N T P K (gh_full T P ids ag nr nd rf ro st).2.1 (gh_full T P ids ag nr nd rf ro st).2.2.1 nr nd rf da ro (gh_full T P ids ag nr nd rf ro st).2.2.2 v → post v) : wpY_runFull post (yn, yt, yp, yk, yLk, yLf, yLp, yLs, yMi, yFu, ySt, yOv, ySe, yAg, yNr, yNd, yRc, yDc, yRo, yMk) := by
  have hb := gh_bd_of wf
  have h160 := gh_tot160 wf
  obtain ⟨⟨c1, c2, c3, c4, c5, c6, c7, c8, c9⟩, hN, hX, hF, hR, hK, hA, hTT⟩ := wf
  obtain ⟨⟨e1, e2, e3, e4⟩, ⟨s0, s1, s2, s3, s4, s5, s6, s7⟩, hro, se, hT⟩ := h
  subst e1 e2 e3 e4 s0 s1 s2 s3 s4 s5 s6 s7
  have hx0 : ∀ x, x ∈ ids → x ≠ 0 := fun x hx => by have := (hX x hx).1; omega
  have eR : gh_RF ids nr rf ro = gh_rch (gy_el 0 P ids ag) (gh_sdF ro) nr rf := by unfold gh_RF; rw [gy_elF]
  unfold wpY_runFull
  refine gy_unmarkAll (fun m0 hm0 => ?_)
  refine gy_markRoots (yo := 0) (R := gh_RF ids nr rf ro) hb hT rfl hro hR (fun r e => gh_rch_sd ⟨r, rfl⟩ e.1) (fun s hs c => absurd (hm0 s hs) c) (fun m1 hM1 hr1 => ?_)
  refine gy_closeMarks (yo := 0) (R := gh_RF ids nr rf ro) hb hT rfl hF (fun x i hx hi e => gh_rch_st hx hi e.1) hM1 (fun m2 hM2 hs2 hc2 => ?_)
  have hE : ∀ s, s < 80 → se s ≠ 0 → (m2 s ≠ 0 ↔ gh_RF ids nr rf ro (se s)) := by
    rw [eR] at hM2 ⊢
    refine gy_exact hT hM2 ?_ hc2
    intro y hy e
    obtain ⟨r, rfl⟩ := hy
    by_cases z : r < 8
    · exact gy_mk_sub hs2 (hr1 r z e)
    · have := hK r (by omega)
      exact absurd this (hx0 _ e.1)
  have hP1 := gh_Pm1 c5
  refine gy_markedWeight (R := gh_RF ids nr rf ro) (a := P) c6 hN hb hT hE ?_
  dsimp only
  rw [hP1]
  refine gy_markedWeight (R := gh_RF ids nr rf ro) (a := P - 1) (by omega) hN hb hT hE ?_
  refine gy_dropUnmarked (yo := 0) (R := gh_RF ids nr rf ro) (Kp := gh_RF ids nr rf ro) hN hb hT rfl hE (fun x _ => ⟨Or.inl, fun c => c.elim id (fun d => absurd rfl d.1)⟩) (fun q hq => ?_)
  have hT' := gy_T_drop hT hx0 hq
  have w1 : gh_mw (gh_RF ids nr rf ro) ag (gh_w nr nd) ids P ≤ gh_S (gh_w nr nd) ids := gh_mw_le
  have w2 : gh_mw (gh_RF ids nr rf ro) ag (gh_w nr nd) ids (P - 1) ≤ gh_S (gh_w nr nd) ids := gh_mw_le
  refine pk_lt T (gh_mw (gh_RF ids nr rf ro) ag (gh_w nr nd) ids P + gh_mw (gh_RF ids nr rf ro) ag (gh_w nr nd) ids (P - 1)) (fun hlt => ?_) (fun hle => ?_) rfl (nI_add _ _)
  · refine nm_e (k _ ?_)
    rw [gh_full_f (by omega)]
    exact ⟨⟨rfl, rfl, rfl, rfl⟩, ⟨rfl, rfl, rfl, rfl, rfl, rfl, rfl, rfl⟩, hro, _, hT'⟩
  · have hb' : gh_bd P (gh_kp (gh_RF ids nr rf ro) ids) ag nr nd := ⟨hb.1, hb.2.1, fun x hx => hb.2.2 x (gh_kp_mem.mp hx).1⟩
    refine gy_raiseAges hb' hT' rfl ?_ (fun q2 hT2 => nm_e (k _ ?_))
    · intro s hs h0 _
      by_cases c : gh_RF ids nr rf ro (se s)
      · rw [gh_ite_t c] at h0
        exact (hE s hs h0).mpr c
      · rw [gh_ite_f c] at h0
        exact absurd rfl h0
    · rw [gh_full_t hle]
      exact ⟨⟨rfl, rfl, rfl, rfl⟩, ⟨rfl, rfl, rfl, rfl, rfl, rfl, rfl, rfl⟩, hro, _, hT2⟩
theorem gy_minor41 {post : SY → Prop} {J11 : Int32 → Int32 → Int32 → Int32 → Int32 → Int32 → Int32 → Int32 → Int32 → Int32 → Int32 → Int32 → Int32 → (Nat → Int32) → (Nat → Int32) → (Nat → Int32) → (Nat → Int32) → (Nat → Int32) → (Nat → Int32) → (Nat → Int32) → (Nat → Int32) → Prop}
    {s : Nat} (hb : gh_bd P ids ag nr nd) (hT : gy_T ids ag nr nd rf da se ySe yAg yNr yNd yRc yDc) (hp : yp = nI P)
    (hrf : ∀ x i, x ∈ ids → i < nr x → rf x i = 0 ∨ rf x i ∈ ids) (hs : s < 80) (h0 : se s ≠ 0)
    (hR : ∀ i, i < nr (se s) → gy_el 1 P ids ag (rf (se s) i) → R (rf (se s) i)) {m0 : Nat → Int32}
    (k : ∀ m, gy_M R se m → gy_sub m0 m → gy_cl 1 P ids ag nr rf se m s → J11 (nI (s + 1)) yn yt yp yk yLk yLf yLp yLs yMi yFu ySt yOv ySe yAg yNr yNd yRc yDc yRo m) :
    ∀ (n i : Nat) (yMk : Nat → Int32), nr (se s) - i < n → i ≤ nr (se s) → gy_M R se yMk → gy_sub m0 yMk →
      (∀ j, j < i → gy_el 1 P ids ag (rf (se s) j) → gy_mk se yMk (rf (se s) j)) → wY_runMinor_41 post J11 (nI s) n (nI i) yn yt yp yk yLk yLf yLp yLs yMi yFu ySt yOv ySe yAg yNr yNd yRc yDc yRo yMk := by
  intro n
  induction n with
  | zero => intro i m h; omega
  | succ n ih =>
    intro i m hn hi hM hsub hc
    obtain ⟨hid, e1, e2, e3, e4, _⟩ := hT.2.1 s hs h0
    have hx := hb.2.2 _ hid
    refine ⟨pk_in s 80 hs, ?_⟩
    rw [nI_clamp (by omega), e2]
    refine pk_le (nr (se s)) i (fun h => nm_r (nI_1 s) (k m hM hsub (fun j hj e => hc j (by omega) e))) (fun h => ?_)
    have ei : (3 : Int32) * nI s + nI i = nI (3 * s + i) := by
      rw [← nI_add, ← pk_mul]; rfl
    rw [ei]
    refine ⟨pk_in (3 * s + i) 240 (by omega), ?_⟩
    rw [nI_clamp (by omega), e4 i h]
    refine gy_mark (yo := 1) hb hT hp (hrf _ i hid h) (fun hk => nm_r (nI_1 i) (ih (i + 1) m (by omega) (by omega) hM hsub ?_)) (fun t ht et e t0 => nm_r (nI_1 i) (ih (i + 1) _ (by omega) (by omega) ?_ (gy_sub_t hsub gy_sub_u) ?_))
    · intro j hj e
      by_cases z : j = i
      · subst z; exact hk e
      · exact hc j (by omega) e
    · have hy := hb.2.2 _ e.1
      exact gy_M_u hM (by omega) (by rw [et]; exact hR i h e)
    · intro j hj e'
      by_cases z : j = i
      · subst z
        exact ⟨t, ht, et, by rw [pk_us]; decide⟩
      · exact gy_mk_sub gy_sub_u (hc j (by omega) e')
theorem gy_minor11 {post : SY → Prop} (hb : gh_bd P ids ag nr nd) (hT : gy_T ids ag nr nd rf da se ySe yAg yNr yNd yRc yDc) (hp : yp = nI P)
    (hrf : ∀ x i, x ∈ ids → i < nr x → rf x i = 0 ∨ rf x i ∈ ids)
    (hR : ∀ x i, x ∈ ids → P ≤ ag x → i < nr x → gy_el 1 P ids ag (rf x i) → R (rf x i)) {m0 : Nat → Int32}
    (k : ∀ n m, gy_M R se m → gy_sub m0 m → (∀ s, s < 80 → se s ≠ 0 → P ≤ ag (se s) → gy_cl 1 P ids ag nr rf se m s) → wY_runMinor_11 post (n + 1) (nI 80) yn yt yp yk yLk yLf yLp yLs yMi yFu ySt yOv ySe yAg yNr yNd yRc yDc yRo m) :
    ∀ (n s : Nat) (yMk : Nat → Int32), 80 - s < n → s ≤ 80 → gy_M R se yMk → gy_sub m0 yMk →
      (∀ t, t < s → se t ≠ 0 → P ≤ ag (se t) → gy_cl 1 P ids ag nr rf se yMk t) → wY_runMinor_11 post n (nI s) yn yt yp yk yLk yLf yLp yLs yMi yFu ySt yOv ySe yAg yNr yNd yRc yDc yRo yMk := by
  intro n
  induction n with
  | zero => intro s m h; omega
  | succ n ih =>
    intro s m hn hs hM hsub hc
    by_cases h : s = 80
    · subst h
      exact k n m hM hsub hc
    · have h' : s < 80 := by omega
      refine br_f (nI_ge (b := 80) h' (by omega)) ⟨pk_in s 80 h', ?_⟩
      rw [nI_clamp (by omega), hT.1 s h']
      have skip : (se s ≠ 0 → ¬ P ≤ ag (se s)) → wY_runMinor_11 post n (nI (s + 1)) yn yt yp yk yLk yLf yLp yLs yMi yFu ySt yOv ySe yAg yNr yNd yRc yDc yRo m := by
        intro c
        refine ih (s + 1) m (by omega) (by omega) hM hsub ?_
        intro t ht t0 ta
        by_cases z : t = s
        · subst z; exact absurd ta (c t0)
        · exact hc t (by omega) t0 ta
      by_cases z : se s = 0
      · exact br_t (by rw [z]; rfl) (nm_r (nI_1 s) (skip (fun c => absurd z c)))
      · obtain ⟨hid, e1, _⟩ := hT.2.1 s h' z
        have hx := hb.2.2 _ hid
        have hP := hb.2.1
        refine br_f (nI_ne0 (by omega) (by omega)) ⟨pk_in s 80 h', ?_⟩
        rw [e1]
        refine pk_lt (ag (se s)) P (fun q => nm_r (nI_1 s) (skip (fun _ => by omega))) (fun q => ⟨nr (se s) + 1, ?_⟩) rfl hp
        refine gy_minor41 hb hT hp hrf h' z (fun i hi e => hR _ i hid q hi e) (m0 := m) (fun m' hM' hs' hc' => ih (s + 1) m' (by omega) (by omega) hM' (gy_sub_t hsub hs') ?_) (nr (se s) + 1) 0 m (by omega) (by omega) hM gy_sub_r (fun j hj => by omega)
        intro t ht t0 ta
        by_cases z2 : t = s
        · subst z2; exact hc'
        · exact fun j hj e => gy_mk_sub hs' (hc t (by omega) t0 ta j hj e)
theorem gh_used2 (hb : gh_bd P ids ag nr nd) {w : Nat → Nat} : gh_S (fun x => if gh_sp P (ag x) = 2 then w x else 0) ids = gh_as ag w ids P := by
  unfold gh_as
  apply gh_S_congr
  intro x hx
  have h1 := hb.2.2 x hx
  have h2 := hb.1
  by_cases c : ag x = P
  · rw [if_pos c, if_pos (gh_sp2.mpr ⟨by omega, by omega⟩)]
  · rw [if_neg c, if_neg (fun d => by have := gh_sp2.mp d; omega)]
theorem gh_used0 {w : Nat → Nat} : gh_S (fun x => if gh_sp P (ag x) = 0 then w x else 0) ids = gh_as ag w ids 0 := by
  unfold gh_as
  apply gh_S_congr
  intro x _
  by_cases c : ag x = 0
  · rw [if_pos c, if_pos (gh_sp0.mpr c)]
  · rw [if_neg c, if_neg (fun d => c (gh_sp0.mp d))]
theorem gy_runMinor {post : SY → Prop} (wf : gh_WF N T P K ids ag nr nd rf ro la) (h : gy_R N T P K ids ag nr nd rf da ro st (yn, yt, yp, yk, yLk, yLf, yLp, yLs, yMi, yFu, ySt, yOv, ySe, yAg, yNr, yNd, yRc, yDc, yRo, yMk))
    (k : ∀ v, gy_R N T P K (gh_minor T P ids ag nr nd rf ro st).2.1 (gh_minor T P ids ag nr nd rf ro st).2.2.1 nr nd rf da ro (gh_minor T P ids ag nr nd rf ro st).2.2.2 v → post v) : wpY_runMinor post (yn, yt, yp, yk, yLk, yLf, yLp, yLs, yMi, yFu, ySt, yOv, ySe, yAg, yNr, yNd, yRc, yDc, yRo, yMk) := by
  have hb := gh_bd_of wf
  have h160 := gh_tot160 wf
  have wf0 := wf
  obtain ⟨⟨c1, c2, c3, c4, c5, c6, c7, c8, c9⟩, hN, hX, hF, hR, hK, hA, hTT⟩ := wf
  obtain ⟨⟨e1, e2, e3, e4⟩, ⟨s0, s1, s2, s3, s4, s5, s6, s7⟩, hro, se, hT⟩ := h
  subst e1 e2 e3 e4 s0 s1 s2 s3 s4 s5 s6 s7
  have hx0 : ∀ x, x ∈ ids → x ≠ 0 := fun x hx => by have := (hX x hx).1; omega
  have eR : gh_RM P ids ag nr rf ro = gh_rch (gy_el 1 P ids ag) (gh_sdM P ids ag nr rf ro) nr rf := by unfold gh_RM; rw [gy_elM]
  have eM : ∀ x, gy_el 1 P ids ag x → gh_elM P ids ag x := fun x hx => by rw [gy_elM] at hx; exact hx
  unfold wpY_runMinor
  refine gy_unmarkAll (fun m0 hm0 => ?_)
  refine gy_markRoots (yo := 1) (R := gh_RM P ids ag nr rf ro) hb hT rfl hro hR (fun r e => gh_rch_sd (Or.inl ⟨r, rfl⟩) (eM _ e)) (fun s hs c => absurd (hm0 s hs) c) (fun m1 hM1 hr1 => ?_)
  refine ⟨81, gy_minor11 (R := gh_RM P ids ag nr rf ro) hb hT rfl hF (fun x i hx hp hi e => gh_rch_sd (Or.inr ⟨x, i, hx, hp, hi, rfl⟩) (eM _ e)) (m0 := m1) (fun n m1' hM1' hs1' hc1' => ?_) 81 0 m1 (by omega) (by omega) hM1 gy_sub_r (fun t ht => by omega)⟩
  refine br_t (by decide) ?_
  refine gy_closeMarks (yo := 1) (R := gh_RM P ids ag nr rf ro) hb hT rfl hF (fun x i hx hi e => gh_rch_st hx hi (eM _ e)) hM1' (fun m2 hM2 hs2 hc2 => ?_)
  have hE : ∀ s, s < 80 → se s ≠ 0 → (m2 s ≠ 0 ↔ gh_RM P ids ag nr rf ro (se s)) := by
    rw [eR] at hM2 ⊢
    refine gy_exact hT hM2 ?_ hc2
    intro y hy e
    rcases hy with ⟨r, rfl⟩ | ⟨x, i, hx, hp, hi, rfl⟩
    · by_cases z : r < 8
      · exact gy_mk_sub hs2 (gy_mk_sub hs1' (hr1 r z e))
      · have := hK r (by omega)
        exact absurd this (hx0 _ e.1)
    · obtain ⟨s, hs, es⟩ := hT.2.2.1 x hx
      subst es
      exact gy_mk_sub hs2 (hc1' s hs (hx0 _ hx) hp i hi e)
  have hP1 := gh_Pm1 c5
  dsimp only
  rw [hP1]
  refine gy_markedWeight (R := gh_RM P ids ag nr rf ro) (a := P - 1) (by omega) hN hb hT hE ?_
  refine gy_used (sp := 2) (by omega) hN hb hT rfl ?_
  rw [gh_used2 hb]
  have w2 : gh_mw (gh_RM P ids ag nr rf ro) ag (gh_w nr nd) ids (P - 1) ≤ gh_S (gh_w nr nd) ids := gh_mw_le
  refine pk_lt T (gh_as ag (gh_w nr nd) ids P + gh_mw (gh_RM P ids ag nr rf ro) ag (gh_w nr nd) ids (P - 1)) (fun hlt => ?_) (fun hle => ?_) rfl (nI_add _ _)
  · refine nm_e (gy_runFull wf0 (st := upd st 7 (st 7 + 1)) ⟨⟨rfl, rfl, rfl, rfl⟩, ⟨rfl, rfl, rfl, rfl, rfl, rfl, rfl, rfl⟩, hro, se, hT⟩ (fun v hv => ?_))
    rw [gh_minor_f (by omega)] at k
    exact k v hv
  · refine gy_dropUnmarked (yo := 1) (R := gh_RM P ids ag nr rf ro) (Kp := gh_KM P ids ag nr rf ro) hN hb hT rfl hE (fun x _ => ⟨fun c => c.elim Or.inl (fun d => Or.inr ⟨by decide, d⟩), fun c => c.elim Or.inl (fun d => Or.inr d.2)⟩) (fun q hq => ?_)
    have hT' := gy_T_drop hT hx0 hq
    have hb' : gh_bd P (gh_kp (gh_KM P ids ag nr rf ro) ids) ag nr nd := ⟨hb.1, hb.2.1, fun x hx => hb.2.2 x (gh_kp_mem.mp hx).1⟩
    refine gy_raiseAges hb' hT' rfl ?_ (fun q2 hT2 => nm_e (k _ ?_))
    · intro s hs h0 ha
      by_cases c : gh_KM P ids ag nr rf ro (se s)
      · rw [gh_ite_t c] at h0 ha
        rcases c with c | c
        · exact (hE s hs h0).mpr c
        · omega
      · rw [gh_ite_f c] at h0
        exact absurd rfl h0
    · rw [gh_minor_t hle]
      exact ⟨⟨rfl, rfl, rfl, rfl⟩, ⟨rfl, rfl, rfl, rfl, rfl, rfl, rfl, rfl⟩, hro, _, hT2⟩
end
end
section
/-! the component: small methods and the remembered set -/
def gx_dsc (me : Nat → Int32) (a r d g : Nat) : Prop := a + 1 < 392 ∧ r < 4 ∧ d < 4 ∧ g < 4 ∧ me (a + 1) = nI (r + 4 * d + 16 * g)
def gx_yI (v : Int32) : Prop := v ≠ 0 ∧ ¬ 200 ≤ v
theorem gx_yI_nI {v : Nat} (h : v < 392) : gx_yI (nI v) ↔ (v ≠ 0 ∧ v < 200) := by
  unfold gx_yI
  have e1 : nI v = 0 ↔ v = 0 := nI_eq (b := 0) (by omega) (by omega)
  have e2 : (200 : Int32) ≤ nI v ↔ 200 ≤ v := nI_leI (a := 200) (by omega) (by omega)
  rw [ne_eq, e1, e2]
  omega
section
variable {NL TL TA RT TS rc pF pR pP : Int32} {me ba ot tp ob rt rs rp fw fr sc cp ss : Nat → Int32}
theorem gx_refsAt {post : Int32 → Prop} {a r d g : Nat} (h : gx_dsc me a r d g) (k : post (nI r)) : wpX_refsAt post (NL, TL, TA, RT, TS, rc, pF, pR, pP, me, ba, ot, tp, ob, rt, rs, rp, fw, fr, sc, cp, ss) (nI a) := by
  obtain ⟨h1, h2, h3, h4, h5⟩ := h
  unfold wpX_refsAt
  rw [nI_1 a]
  refine ⟨pk_in (a + 1) 392 h1, ?_⟩
  rw [nI_clamp (by omega), h5, gh_d3 r h2 d h3 g h4]
  exact k
theorem gx_dataAt {post : Int32 → Prop} {a r d g : Nat} (h : gx_dsc me a r d g) (k : post (nI d)) : wpX_dataAt post (NL, TL, TA, RT, TS, rc, pF, pR, pP, me, ba, ot, tp, ob, rt, rs, rp, fw, fr, sc, cp, ss) (nI a) := by
  obtain ⟨h1, h2, h3, h4, h5⟩ := h
  unfold wpX_dataAt
  rw [nI_1 a]
  refine ⟨pk_in (a + 1) 392 h1, ?_⟩
  rw [nI_clamp (by omega), h5, gh_d2 r h2 d h3 g h4]
  exact k
theorem gx_ageAt {post : Int32 → Prop} {a r d g : Nat} (h : gx_dsc me a r d g) (k : post (nI g)) : wpX_ageAt post (NL, TL, TA, RT, TS, rc, pF, pR, pP, me, ba, ot, tp, ob, rt, rs, rp, fw, fr, sc, cp, ss) (nI a) := by
  obtain ⟨h1, h2, h3, h4, h5⟩ := h
  unfold wpX_ageAt
  rw [nI_1 a]
  refine ⟨pk_in (a + 1) 392 h1, ?_⟩
  rw [nI_clamp (by omega), h5, gh_d4 r h2 d h3 g h4]
  exact k
theorem gx_weightAt {post : Int32 → Prop} {a r d g : Nat} (h : gx_dsc me a r d g) (k : post (nI (2 + r + d))) : wpX_weightAt post (NL, TL, TA, RT, TS, rc, pF, pR, pP, me, ba, ot, tp, ob, rt, rs, rp, fw, fr, sc, cp, ss) (nI a) := by
  unfold wpX_weightAt
  refine gx_refsAt h (gx_dataAt h ?_)
  have e : (2 : Int32) + nI r + nI d = nI (2 + r + d) := by rw [← nI_add, ← nI_add]; rfl
  rw [e]
  exact k
theorem gx_words {post : Int32 → Prop} {sp t b : Nat} (hs : sp < 3) (h1 : tp sp = nI t) (h2 : ba sp = nI b) (hb : b ≤ t) (k : post (nI (t - b))) : wpX_words post (NL, TL, TA, RT, TS, rc, pF, pR, pP, me, ba, ot, tp, ob, rt, rs, rp, fw, fr, sc, cp, ss) (nI sp) := by
  unfold wpX_words
  refine ⟨pk_in sp 3 hs, pk_in sp 3 hs, ?_⟩
  rw [nI_clamp (by omega), h1, h2, pk_sub hb]
  exact k
theorem gx_inRange {post : Int32 → Prop} {p0 : Int32} {K : Nat} (hK : K ≤ 8) (hR : RT = nI K) (k1 : ∀ j, j < K → p0 = nI j → post 1) (k0 : (∀ j, j < K → p0 ≠ nI j) → post 0) : wpX_inRange post (NL, TL, TA, RT, TS, rc, pF, pR, pP, me, ba, ot, tp, ob, rt, rs, rp, fw, fr, sc, cp, ss) p0 := by
  subst hR
  unfold wpX_inRange
  refine br_c (fun h => k0 (fun j hj e => ?_)) (fun h => br_c (fun h2 => k0 (fun j hj e => ?_)) (fun h2 => ?_))
  · rw [e] at h; exact nI_pos (by omega) h
  · rw [e] at h2; exact nI_ge hj (by omega) h2
  · obtain ⟨j, hj, rfl⟩ := nI_of h
    refine k1 j ?_ rfl
    rw [nI_leI (by omega) hj] at h2
    omega
theorem gx_isYoung {post : Int32 → Prop} {v : Int32} (k1 : gx_yI v → post 1) (k0 : ¬ gx_yI v → post 0) : wpX_isYoung post (NL, TL, TA, RT, TS, rc, pF, pR, pP, me, ba, ot, tp, ob, rt, rs, rp, fw, fr, sc, cp, ss) v := by
  unfold wpX_isYoung
  exact br_c (fun h => k0 (fun c => c.1 h)) (fun h => br_c (fun h2 => k0 (fun c => c.2 h2)) (fun h2 => k1 ⟨h, h2⟩))
/-! the remembered set: s the slots, p the places plus one -/
def gx_rm (c : Nat) (s p : Nat → Nat) (rs rp : Nat → Int32) : Prop :=
  c ≤ 96 ∧ (∀ i, i < c → rs i = nI (s i) ∧ s i < 392 ∧ p (s i) = i + 1) ∧ (∀ a, a < 392 → rp a = nI (p a) ∧ p a ≤ c ∧ (p a ≠ 0 → s (p a - 1) = a))
def gx_rem (c : Nat) (rs rp : Nat → Int32) (Q : Nat → Prop) : Prop := ∃ s p, gx_rm c s p rs rp ∧ ∀ a, Q a ↔ (a < 392 ∧ p a ≠ 0)
theorem gx_rem_congr {c : Nat} {Q Q' : Nat → Prop} (h : ∀ a, Q a ↔ Q' a) (hr : gx_rem c rs rp Q) : gx_rem c rs rp Q' := by
  obtain ⟨s, p, h1, h2⟩ := hr
  exact ⟨s, p, h1, fun a => (h a).symm.trans (h2 a)⟩
theorem gx_rem_lt {c lo slot : Nat} {s p : Nat → Nat} (h : gx_rm c s p rs rp) (hs : slot < 392) (h0 : p slot = 0) (hlo : ∀ a, a < 392 → p a ≠ 0 → lo ≤ a ∧ a < lo + 96) (h2 : lo ≤ slot ∧ slot < lo + 96) : c < 96 := by
  obtain ⟨g1, g2, g3⟩ := h
  have hl : (slot :: (List.range c).map s).length ≤ ((List.range 96).map (fun i => lo + i)).length := by
    apply gh_len_le
    · rw [List.nodup_cons]
      refine ⟨fun hm => ?_, ?_⟩
      · obtain ⟨i, hi, e⟩ := List.mem_map.mp hm
        have := (g2 i (List.mem_range.mp hi)).2.2
        rw [e, h0] at this
        omega
      · rw [List.nodup_iff_pairwise_ne, List.pairwise_map]
        refine List.Pairwise.imp_of_mem ?_ (List.nodup_iff_pairwise_ne.mp (List.nodup_range (n := c)))
        intro a b ha hb hne e
        have ea := (g2 a (List.mem_range.mp ha)).2.2
        have eb := (g2 b (List.mem_range.mp hb)).2.2
        rw [e, eb] at ea
        omega
    · intro x hx
      rw [List.mem_map]
      have hx' : lo ≤ x ∧ x < lo + 96 := by
        rcases List.mem_cons.mp hx with e | e
        · subst e; exact h2
        · obtain ⟨i, hi, e⟩ := List.mem_map.mp e
          have := g2 i (List.mem_range.mp hi)
          subst e
          exact hlo _ this.2.1 (by omega)
      exact ⟨x - lo, List.mem_range.mpr (by omega), by omega⟩
  simp only [List.length_cons, List.length_map, List.length_range] at hl
  omega
theorem gx_remember {post : SX → Prop} {c lo slot : Nat} {Q : Nat → Prop} (h : gx_rem c rs rp Q) (hs : slot < 392) (hlo : ∀ a, Q a → lo ≤ a ∧ a < lo + 96) (h2 : lo ≤ slot ∧ slot < lo + 96)
    (k : ∀ c' rs' rp', gx_rem c' rs' rp' (fun a => Q a ∨ a = slot) → post (NL, TL, TA, RT, TS, nI c', pF, pR, pP, me, ba, ot, tp, ob, rt, rs', rp', fw, fr, sc, cp, ss)) : wpX_remember post (NL, TL, TA, RT, TS, nI c, pF, pR, pP, me, ba, ot, tp, ob, rt, rs, rp, fw, fr, sc, cp, ss) (nI slot) := by
  obtain ⟨s, p, hr, hQ⟩ := h
  have hr' := hr
  obtain ⟨g1, g2, g3⟩ := hr
  unfold wpX_remember
  refine ⟨pk_in slot 392 hs, ?_⟩
  have gs := g3 slot hs
  rw [nI_clamp (by omega), gs.1]
  refine pk_eq (p slot) 0 (fun e => ?_) (fun e => ?_)
  · have hc : c < 96 := gx_rem_lt hr' hs e (fun a ha hp => hlo a ((hQ a).mpr ⟨ha, hp⟩)) h2
    refine br_t (nI_lt (b := 96) hc (by omega)) ⟨pk_in c 96 hc, ?_⟩
    rw [nI_clamp (by omega)]
    refine nm_e (nm_r (nI_1 c) ⟨pk_in slot 392 hs, nm_e (k (c + 1) _ _ ?_)⟩)
    refine ⟨gh_u s c slot, gh_u p slot (c + 1), ⟨by omega, ?_, ?_⟩, ?_⟩
    · intro i hi
      by_cases z : i = c
      · subst z
        rw [pk_us, gh_us, gh_us]
        exact ⟨rfl, hs, rfl⟩
      · have gi := g2 i (by omega)
        have ne : s i ≠ slot := fun c => by rw [c] at gi; omega
        rw [pk_un z, gh_un z, gh_un ne]
        exact gi
    · intro a ha
      by_cases z : a = slot
      · subst z
        rw [pk_us, gh_us]
        refine ⟨rfl, by omega, fun _ => ?_⟩
        rw [Nat.add_sub_cancel, gh_us]
      · have ga := g3 a ha
        rw [pk_un z, gh_un z]
        refine ⟨ga.1, by omega, fun hp => ?_⟩
        rw [gh_un (by omega)]
        exact ga.2.2 hp
    · intro a
      by_cases z : a = slot
      · subst z
        rw [gh_us]
        exact ⟨fun _ => ⟨hs, by omega⟩, fun _ => Or.inr rfl⟩
      · rw [gh_un z]
        exact ⟨fun c => c.elim (fun d => (hQ a).mp d) (fun d => absurd d z), fun c => Or.inl ((hQ a).mpr c)⟩
  · refine k c rs rp ⟨s, p, hr', fun a => ?_⟩
    refine ⟨fun c => c.elim (fun d => (hQ a).mp d) (fun d => ?_), fun c => Or.inl ((hQ a).mpr c)⟩
    subst d
    exact ⟨hs, e⟩
theorem gx_forgetP {post : SX → Prop} {c slot : Nat} {s p : Nat → Nat} (h : gx_rm c s p rs rp) (hs : slot < 392) (hp : p slot ≠ 0)
    (k : ∀ rs' rp', gx_rm (c - 1) (gh_u s (p slot - 1) (s (c - 1))) (gh_u (gh_u p (s (c - 1)) (p slot)) slot 0) rs' rp' → post (NL, TL, TA, RT, TS, nI (c - 1), pF, pR, pP, me, ba, ot, tp, ob, rt, rs', rp', fw, fr, sc, cp, ss)) : wpX_forget post (NL, TL, TA, RT, TS, nI c, pF, pR, pP, me, ba, ot, tp, ob, rt, rs, rp, fw, fr, sc, cp, ss) (nI slot) := by
  obtain ⟨g1, g2, g3⟩ := h
  obtain ⟨q1, q2, q3⟩ := g3 slot hs
  have q3' := q3 hp
  obtain ⟨l1, l2, l3⟩ := g2 (c - 1) (by omega)
  have ec : nI c - 1 = nI (c - 1) := by
    have h := nI_pred (c - 1)
    rwa [Nat.sub_add_cancel (by omega)] at h
  have ep : nI (p slot) - 1 = nI (p slot - 1) := by
    have h := nI_pred (p slot - 1)
    rwa [Nat.sub_add_cancel (by omega)] at h
  unfold wpX_forget
  refine ⟨pk_in slot 392 hs, ?_⟩
  rw [nI_clamp (by omega), ec]
  refine nm_r q1 (br_f (nI_ne0 (by omega) (by omega)) ⟨pk_in (c - 1) 96 (by omega), ?_⟩)
  rw [nI_clamp (by omega), ep]
  refine nm_r l1 ⟨pk_in (p slot - 1) 96 (by omega), ?_⟩
  rw [nI_clamp (by omega)]
  refine nm_e ⟨pk_in (s (c - 1)) 392 l2, ?_⟩
  rw [nI_clamp (by omega)]
  refine nm_e ⟨pk_in slot 392 hs, nm_e (nm_e (k _ _ ⟨by omega, ?_, ?_⟩))⟩
  · intro i hi
    by_cases z : i = p slot - 1
    · subst z
      have ne : s (c - 1) ≠ slot := fun e => by rw [e] at l3; omega
      rw [pk_us, gh_us, gh_un ne, gh_us]
      exact ⟨rfl, l2, by omega⟩
    · have gi := g2 i (by omega)
      have n1 : s i ≠ slot := fun e => by rw [e] at gi; omega
      have n2 : s i ≠ s (c - 1) := fun e => by rw [e, l3] at gi; omega
      rw [pk_un z, gh_un z, gh_un n1, gh_un n2]
      exact gi
  · intro a ha
    by_cases z : a = slot
    · subst z
      rw [pk_us, gh_us]
      exact ⟨rfl, by omega, fun c => absurd rfl c⟩
    · rw [pk_un z, gh_un z]
      by_cases z2 : a = s (c - 1)
      · subst z2
        rw [pk_us, gh_us]
        have : p slot ≠ c := fun e => by rw [e] at q3'; exact z q3'
        exact ⟨rfl, by omega, fun _ => gh_us⟩
      · rw [pk_un z2, gh_un z2]
        obtain ⟨r1, r2, r3⟩ := g3 a ha
        refine ⟨r1, ?_, fun h => ?_⟩
        · by_cases e : p a = c
          · have := r3 (by omega)
            rw [e] at this
            exact absurd this.symm z2
          · omega
        · have r3' := r3 h
          rw [gh_un]
          · exact r3'
          · intro e
            rw [e, q3'] at r3'
            exact z r3'.symm
theorem gx_forget {post : SX → Prop} {c slot : Nat} {Q : Nat → Prop} (h : gx_rem c rs rp Q) (hs : slot < 392)
    (k : ∀ c' rs' rp', gx_rem c' rs' rp' (fun a => Q a ∧ a ≠ slot) → post (NL, TL, TA, RT, TS, nI c', pF, pR, pP, me, ba, ot, tp, ob, rt, rs', rp', fw, fr, sc, cp, ss)) : wpX_forget post (NL, TL, TA, RT, TS, nI c, pF, pR, pP, me, ba, ot, tp, ob, rt, rs, rp, fw, fr, sc, cp, ss) (nI slot) := by
  obtain ⟨s, p, hr, hQ⟩ := h
  by_cases z : p slot = 0
  · unfold wpX_forget
    refine ⟨pk_in slot 392 hs, ?_⟩
    rw [nI_clamp (by omega)]
    refine nm_r ((hr.2.2 slot hs).1) (br_t (by rw [z]; rfl) (k c rs rp ⟨s, p, hr, fun a => ?_⟩))
    refine ⟨fun d => (hQ a).mp d.1, fun d => ⟨(hQ a).mpr d, fun e => ?_⟩⟩
    subst e
    exact d.2 z
  · refine gx_forgetP hr hs z (fun rs' rp' hr' => k _ _ _ ⟨_, _, hr', fun a => ?_⟩)
    have hc : 0 < c := by have := (hr.2.2 slot hs).2.1; omega
    by_cases e : a = slot
    · subst e
      rw [gh_us]
      exact ⟨fun d => absurd rfl d.2, fun d => absurd rfl d.2⟩
    · rw [gh_un e]
      by_cases e2 : a = s (c - 1)
      · subst e2
        rw [gh_us]
        have l := hr.2.1 (c - 1) (by omega)
        exact ⟨fun _ => ⟨l.2.1, z⟩, fun _ => ⟨(hQ _).mpr ⟨l.2.1, by omega⟩, e⟩⟩
      · rw [gh_un e2]
        exact ⟨fun d => (hQ a).mp d.1, fun d => ⟨(hQ a).mpr d, e⟩⟩
theorem gx_clear2 {post : SX → Prop} {c : Nat} {s p : Nat → Nat} (h : gx_rm c s p rs rp) (k : ∀ rp', (∀ a, a < 392 → rp' a = 0) → post (NL, TL, TA, RT, TS, 0, pF, pR, pP, me, ba, ot, tp, ob, rt, rs, rp', fw, fr, sc, cp, ss)) :
    ∀ (n i : Nat) (rp' : Nat → Int32), c - i < n → i ≤ c → (∀ a, a < 392 → rp' a = if p a ≠ 0 ∧ p a ≤ i then 0 else nI (p a)) → wX_clearRemembered_2 post NL TL TA RT TS (nI c) pF pR pP n (nI i) me ba ot tp ob rt rs rp' fw fr sc cp ss := by
  obtain ⟨g1, g2, g3⟩ := h
  intro n
  induction n with
  | zero => intro i q h; omega
  | succ n ih =>
    intro i q hn hi hq
    refine pk_le c i (fun h => k q (fun a ha => ?_)) (fun h => ⟨pk_in i 96 (by omega), ?_⟩)
    · have ga := g3 a ha
      rw [hq a ha]
      by_cases z : p a = 0
      · rw [if_neg (fun d => d.1 z), z]; rfl
      · rw [if_pos ⟨z, by omega⟩]
    · obtain ⟨r1, r2, r3⟩ := g2 i h
      rw [nI_clamp (by omega), r1]
      refine ⟨pk_in (s i) 392 r2, ?_⟩
      rw [nI_clamp (by omega)]
      refine nm_e (nm_r (nI_1 i) (ih (i + 1) _ (by omega) (by omega) ?_))
      intro a ha
      by_cases z : a = s i
      · subst z
        rw [pk_us, if_pos ⟨by omega, by omega⟩]
      · rw [pk_un z, hq a ha]
        have ga := g3 a ha
        have ne : p a ≠ i + 1 := by
          intro e
          have := ga.2.2 (by omega)
          rw [e, Nat.add_sub_cancel] at this
          exact z this.symm
        by_cases z2 : p a ≠ 0 ∧ p a ≤ i
        · rw [if_pos z2, if_pos ⟨z2.1, by omega⟩]
        · rw [if_neg z2, if_neg (fun d => z2 ⟨d.1, by omega⟩)]
theorem gx_clearRemembered {post : SX → Prop} {c : Nat} {Q : Nat → Prop} (h : gx_rem c rs rp Q) (k : ∀ rp', gx_rem 0 rs rp' (fun _ => False) → post (NL, TL, TA, RT, TS, nI 0, pF, pR, pP, me, ba, ot, tp, ob, rt, rs, rp', fw, fr, sc, cp, ss)) : wpX_clearRemembered post (NL, TL, TA, RT, TS, nI c, pF, pR, pP, me, ba, ot, tp, ob, rt, rs, rp, fw, fr, sc, cp, ss) := by
  obtain ⟨s, p, hr, hQ⟩ := h
  unfold wpX_clearRemembered
  refine ⟨c + 1, gx_clear2 hr (fun rp' h0 => k rp' ⟨s, fun _ => 0, ⟨by omega, fun i hi => by omega, fun a ha => ⟨h0 a ha, Nat.le_refl 0, fun d => absurd rfl d⟩⟩, fun a => ⟨fun d => d.elim, fun d => absurd rfl d.2⟩⟩) (c + 1) 0 rp (by omega) (by omega) ?_⟩
  intro a ha
  rw [if_neg (fun d => by omega)]
  exact (hr.2.2 a ha).1
end
end
section
/-! the component: forwarding of the roots and of the remembered slots, new crossings -/
section
variable {NL TL TA RT TS rc pF pR pP : Int32} {me ba ot tp ob rt rs rp fw fr sc cp ss : Nat → Int32}
theorem gx_m1 (x : Int32) : x + (-1) = x - 1 := (Int32.sub_eq_add_neg x 1).symm
/-- the state of forwardRemembered with m slots to go -/
def gx_fI (fw me0 : Nat → Int32) (Q0 : Nat → Prop) (m c : Nat) (s p : Nat → Nat) (rs rp me : Nat → Int32) : Prop :=
  m ≤ c ∧ gx_rm c s p rs rp ∧ ∀ a, a < 392 →
    (Q0 a → (p a ≠ 0 ∧ p a ≤ m ∧ me a = me0 a) ∨ ((p a = 0 ∨ m < p a) ∧ me a = fw (me0 a).toNatClampNeg ∧ (p a ≠ 0 ↔ gx_yI (me a)))) ∧ (¬ Q0 a → p a = 0 ∧ me a = me0 a)
theorem gx_fwd7 {post : SX → Prop} {me0 : Nat → Int32} {Q0 : Nat → Prop}
    (hQ : ∀ a, Q0 a → a < 392 ∧ ∃ v n, me0 a = nI v ∧ v < 392 ∧ fw v = nI n ∧ n < 392)
    (k : ∀ me' c' rs' rp', (∀ a, a < 392 → Q0 a → me' a = fw (me0 a).toNatClampNeg) → (∀ a, a < 392 → ¬ Q0 a → me' a = me0 a) → gx_rem c' rs' rp' (fun a => Q0 a ∧ gx_yI (me' a)) →
      post (NL, TL, TA, RT, TS, nI c', pF, pR, pP, me', ba, ot, tp, ob, rt, rs', rp', fw, fr, sc, cp, ss)) :
    ∀ (m n c : Nat) (s p : Nat → Nat) (rs rp me : Nat → Int32), m < n → gx_fI fw me0 Q0 m c s p rs rp me → wX_forwardRemembered_7 post n (nI m - 1) NL TL TA RT TS (nI c) pF pR pP me ba ot tp ob rt rs rp fw fr sc cp ss := by
  intro m
  induction m with
  | zero =>
    intro n c s p rs rp me hn hI
    obtain ⟨n, rfl⟩ : ∃ n', n = n' + 1 := ⟨n - 1, by omega⟩
    obtain ⟨hm, hr, ha⟩ := hI
    refine br_t (by decide) (k me c rs rp ?_ ?_ ⟨s, p, hr, fun a => ⟨fun h => ?_, fun h => ?_⟩⟩)
    · intro a h1 h2
      rcases (ha a h1).1 h2 with d | d
      · omega
      · exact d.2.1
    · intro a h1 h2
      exact ((ha a h1).2 h2).2
    · have h1 := (hQ a h.1).1
      rcases (ha a h1).1 h.1 with d | d
      · omega
      · exact ⟨h1, d.2.2.mpr h.2⟩
    · by_cases q : Q0 a
      · rcases (ha a h.1).1 q with d | d
        · omega
        · exact ⟨q, d.2.2.mp h.2⟩
      · exact absurd ((ha a h.1).2 q).1 h.2
  | succ m ih =>
    intro n c s p rs rp me hn hI
    obtain ⟨n, rfl⟩ : ∃ n', n = n' + 1 := ⟨n - 1, by omega⟩
    obtain ⟨hm, hr, ha⟩ := hI
    have hr' := hr
    obtain ⟨g1, g2, g3⟩ := hr
    obtain ⟨r1, r2, r3⟩ := g2 m (by omega)
    rw [nI_pred]
    have hQs : Q0 (s m) := by
      by_cases q : Q0 (s m)
      · exact q
      · have := ((ha _ r2).2 q).1
        omega
    obtain ⟨_, v, nn, e1, e2, e3, e4⟩ := hQ _ hQs
    have eme : me (s m) = nI v := by
      rcases (ha _ r2).1 hQs with d | d
      · rw [d.2.2, e1]
      · omega
    have efw : fw (me0 (s m)).toNatClampNeg = nI nn := by rw [e1, nI_clamp (by omega), e3]
    refine br_f (nI_pos (by omega)) ⟨pk_in m 96 (by omega), ?_⟩
    rw [nI_clamp (by omega)]
    refine nm_r r1 ⟨pk_in (s m) 392 r2, ?_⟩
    rw [nI_clamp (by omega), eme]
    refine ⟨pk_in v 392 e2, ?_⟩
    rw [nI_clamp (by omega)]
    refine nm_r e3 ⟨pk_in (s m) 392 r2, nm_e (gx_isYoung (fun hy => br_f (by decide) (nm_r (gx_m1 _) (ih n c s p rs rp _ (by omega) ⟨by omega, hr', ?_⟩))) (fun hy => br_t rfl (gx_forgetP hr' r2 (by omega) (fun rs' rp' hrn => nm_r (gx_m1 _) (ih n (c - 1) _ _ rs' rp' _ (by omega) ⟨by omega, hrn, ?_⟩)))))⟩
    · intro a h1
      by_cases z : a = s m
      · subst z
        rw [pk_us]
        exact ⟨fun _ => Or.inr ⟨Or.inr (by omega), efw.symm, ⟨fun _ => hy, fun _ => by omega⟩⟩, fun c => absurd hQs c⟩
      · rw [pk_un z]
        refine ⟨fun q => ?_, (ha a h1).2⟩
        rcases (ha a h1).1 q with d | d
        · refine Or.inl ⟨d.1, ?_, d.2.2⟩
          have : p a ≠ m + 1 := fun e => by
            have := (g3 a h1).2.2 d.1
            rw [e, Nat.add_sub_cancel] at this
            exact z this.symm
          omega
        · exact Or.inr ⟨by omega, d.2⟩
    · intro a h1
      by_cases z : a = s m
      · subst z
        rw [pk_us, gh_us]
        exact ⟨fun _ => Or.inr ⟨Or.inl rfl, efw.symm, ⟨fun c => absurd rfl c, fun c => absurd c hy⟩⟩, fun c => absurd hQs c⟩
      · rw [pk_un z, gh_un z]
        by_cases z2 : a = s (c - 1)
        · subst z2
          rw [gh_us]
          have l := g2 (c - 1) (by omega)
          have ne : c ≠ m + 1 := fun e => by
            subst e
            rw [Nat.add_sub_cancel] at z
            exact z rfl
          refine ⟨fun q => ?_, fun q => ?_⟩
          · rcases (ha _ h1).1 q with d | d
            · omega
            · exact Or.inr ⟨Or.inr (by omega), d.2.1, ⟨fun _ => d.2.2.mp (by omega), fun _ => by omega⟩⟩
          · have := ((ha _ h1).2 q).1
            omega
        · rw [gh_un z2]
          refine ⟨fun q => ?_, (ha a h1).2⟩
          rcases (ha a h1).1 q with d | d
          · refine Or.inl ⟨d.1, ?_, d.2.2⟩
            have : p a ≠ m + 1 := fun e => by
              have := (g3 a h1).2.2 d.1
              rw [e, Nat.add_sub_cancel] at this
              exact z this.symm
            omega
          · exact Or.inr ⟨by omega, d.2⟩
theorem gx_forwardRemembered {post : SX → Prop} {c : Nat} {Q0 : Nat → Prop} (h : gx_rem c rs rp Q0)
    (hQ : ∀ a, Q0 a → a < 392 ∧ ∃ v n, me a = nI v ∧ v < 392 ∧ fw v = nI n ∧ n < 392)
    (k : ∀ me' c' rs' rp', (∀ a, a < 392 → Q0 a → me' a = fw (me a).toNatClampNeg) → (∀ a, a < 392 → ¬ Q0 a → me' a = me a) → gx_rem c' rs' rp' (fun a => Q0 a ∧ gx_yI (me' a)) →
      post (NL, TL, TA, RT, TS, nI c', pF, pR, pP, me', ba, ot, tp, ob, rt, rs', rp', fw, fr, sc, cp, ss)) : wpX_forwardRemembered post (NL, TL, TA, RT, TS, nI c, pF, pR, pP, me, ba, ot, tp, ob, rt, rs, rp, fw, fr, sc, cp, ss) := by
  obtain ⟨s, p, hr, hQ0⟩ := h
  unfold wpX_forwardRemembered
  refine nm_e ⟨c + 1, gx_fwd7 hQ k c (c + 1) c s p rs rp me (by omega) ⟨by omega, hr, ?_⟩⟩
  intro a ha
  refine ⟨fun q => Or.inl ⟨((hQ0 a).mp q).2, (hr.2.2 a ha).2.1, rfl⟩, fun q => ⟨?_, rfl⟩⟩
  by_cases z : p a = 0
  · exact z
  · exact absurd ((hQ0 a).mpr ⟨ha, z⟩) q
/-! new crossings of the objects of a list -/
theorem gx_remF21 {post : SX → Prop} {J5 : Int32 → Int32 → Int32 → Int32 → Int32 → Int32 → Int32 → Int32 → Int32 → Int32 → Int32 → (Nat → Int32) → (Nat → Int32) → (Nat → Int32) → (Nat → Int32) → (Nat → Int32) → (Nat → Int32) → (Nat → Int32) → (Nat → Int32) → (Nat → Int32) → (Nat → Int32) → (Nat → Int32) → (Nat → Int32) → (Nat → Int32) → Prop}
    {a r d g lo i cnt : Nat} {Q : Nat → Prop} (hd : gx_dsc me a r d g) (hlo : ∀ b, Q b → lo ≤ b ∧ b < lo + 96) (h1 : lo ≤ a ∧ a + 2 + r ≤ lo + 96) (h2 : a + 2 + r ≤ 392)
    (k : ∀ c' rs' rp', gx_rem c' rs' rp' (fun b => Q b ∨ ∃ j, j < r ∧ b = a + 2 + j ∧ gx_yI (me b)) → J5 (nI (a + (2 + r + d))) (nI (i + 1)) NL TL TA RT TS (nI c') pF pR pP me ba ot tp ob rt rs' rp' fw fr sc cp ss) :
    ∀ (n f c : Nat) (rs rp : Nat → Int32), r - f < n → f ≤ r → gx_rem c rs rp (fun b => Q b ∨ ∃ j, j < f ∧ b = a + 2 + j ∧ gx_yI (me b)) →
      wX_rememberFields_21 post J5 (nI cnt) (nI a) (nI i) (nI r) n (nI f) NL TL TA RT TS (nI c) pF pR pP me ba ot tp ob rt rs rp fw fr sc cp ss := by
  have hr4 : r < 4 := hd.2.1
  intro n
  induction n with
  | zero => intro f c rs rp h; omega
  | succ n ih =>
    intro f c rs rp hn hf hR
    refine pk_le r f (fun h => gx_weightAt hd (nm_r (nI_add _ _) (nm_r (nI_1 i) ?_))) (fun h => nm_r (e' := nI (a + 2 + f)) ?_ ⟨pk_in (a + 2 + f) 392 (by omega), ?_⟩)
    · have : f = r := by omega
      subst this
      exact k c rs rp hR
    · rw [← nI_add, ← nI_add]; rfl
    · rw [nI_clamp (by omega)]
      refine gx_isYoung (fun hy => br_f (by decide) (gx_remember (lo := lo) hR (by omega) ?_ (by omega) (fun c' rs' rp' hR' => nm_r (nI_1 f) (ih (f + 1) c' rs' rp' (by omega) (by omega) (gx_rem_congr ?_ hR'))))) (fun hy => br_t rfl (nm_r (nI_1 f) (ih (f + 1) c rs rp (by omega) (by omega) (gx_rem_congr ?_ hR))))
      · intro b hb
        rcases hb with hb | ⟨j, hj, e, _⟩
        · exact hlo b hb
        · omega
      · intro b
        constructor
        · rintro ((hb | ⟨j, hj, e, hy'⟩) | e)
          · exact Or.inl hb
          · exact Or.inr ⟨j, by omega, e, hy'⟩
          · subst e; exact Or.inr ⟨f, by omega, rfl, hy⟩
        · rintro (hb | ⟨j, hj, e, hy'⟩)
          · exact Or.inl (Or.inl hb)
          · by_cases z : j = f
            · subst z; exact Or.inr e
            · exact Or.inl (Or.inr ⟨j, by omega, e, hy'⟩)
      · intro b
        constructor
        · rintro (hb | ⟨j, hj, e, hy'⟩)
          · exact Or.inl hb
          · exact Or.inr ⟨j, by omega, e, hy'⟩
        · rintro (hb | ⟨j, hj, e, hy'⟩)
          · exact Or.inl hb
          · by_cases z : j = f
            · subst z; subst e; exact absurd hy' hy
            · exact Or.inr ⟨j, by omega, e, hy'⟩
theorem gx_remF5 {post : SX → Prop} {nr nd A gg : Nat → Nat} {lo cnt : Nat} : ∀ (l : List Nat) (n b i c : Nat) (rs rp : Nat → Int32) (Q : Nat → Prop),
    l.length < n → cnt = i + l.length → cnt < 2 ^ 31 → gh_lay (gh_w nr nd) A b l → (∀ x, x ∈ l → gx_dsc me (A x) (nr x) (nd x) (gg x) ∧ lo ≤ A x ∧ A x + 2 + nr x ≤ lo + 96 ∧ A x + 2 + nr x ≤ 392) →
    (∀ b, Q b → lo ≤ b ∧ b < lo + 96) → gx_rem c rs rp Q →
    (∀ c' rs' rp', gx_rem c' rs' rp' (fun b => Q b ∨ ∃ x, x ∈ l ∧ ∃ j, j < nr x ∧ b = A x + 2 + j ∧ gx_yI (me b)) → post (NL, TL, TA, RT, TS, nI c', pF, pR, pP, me, ba, ot, tp, ob, rt, rs', rp', fw, fr, sc, cp, ss)) →
    wX_rememberFields_5 post (nI cnt) n (nI b) (nI i) NL TL TA RT TS (nI c) pF pR pP me ba ot tp ob rt rs rp fw fr sc cp ss := by
  intro l
  induction l with
  | nil =>
    intro n b i c rs rp Q hn hc hc2 hl hx hlo hR k
    obtain ⟨n, rfl⟩ : ∃ n', n = n' + 1 := ⟨n - 1, by omega⟩
    simp only [List.length_nil] at hc
    refine br_t (nI_le (by omega) (by omega)) (k c rs rp (gx_rem_congr (fun b => ?_) hR))
    refine ⟨Or.inl, fun d => d.elim id (fun ⟨x, hx, _⟩ => ?_)⟩
    cases hx
  | cons x l ih =>
    intro n b i c rs rp Q hn hc hc2 hl hx hlo hR k
    obtain ⟨n, rfl⟩ : ∃ n', n = n' + 1 := ⟨n - 1, by omega⟩
    simp only [List.length_cons] at hc hn
    obtain ⟨hl1, hl2⟩ := hl
    obtain ⟨hd, d1, d2, d3⟩ := hx x (List.mem_cons_self ..)
    subst hl1
    refine br_f (nI_ge (by omega) (by omega)) (gx_refsAt hd ⟨nr x + 1, ?_⟩)
    refine gx_remF21 (Q := Q) hd hlo ⟨d1, d2⟩ d3 (fun c' rs' rp' hR' => ?_) (nr x + 1) 0 c rs rp (by omega) (by omega) (gx_rem_congr (fun b => ⟨Or.inl, fun d => d.elim id (fun ⟨j, hj, _⟩ => by omega)⟩) hR)
    refine ih n _ (i + 1) c' rs' rp' _ (by omega) (by omega) hc2 hl2 (fun y hy => hx y (List.mem_cons_of_mem _ hy)) ?_ hR' (fun c2 rs2 rp2 hR2 => k c2 rs2 rp2 (gx_rem_congr (fun b => ?_) hR2))
    · intro b hb
      rcases hb with hb | ⟨j, hj, e, _⟩
      · exact hlo b hb
      · omega
    · constructor
      · rintro ((hb | ⟨j, hj, e⟩) | ⟨y, hy, e⟩)
        · exact Or.inl hb
        · exact Or.inr ⟨x, List.mem_cons_self .., j, hj, e⟩
        · exact Or.inr ⟨y, List.mem_cons_of_mem _ hy, e⟩
      · rintro (hb | ⟨y, hy, e⟩)
        · exact Or.inl (Or.inl hb)
        · rcases List.mem_cons.mp hy with z | z
          · subst z
            exact Or.inl (Or.inr e)
          · exact Or.inr ⟨y, z, e⟩
theorem gx_rememberFields {post : SX → Prop} {nr nd A gg : Nat → Nat} {lo b c : Nat} {l : List Nat} {Q : Nat → Prop} (hln : l.length < 2 ^ 31) (hl : gh_lay (gh_w nr nd) A b l)
    (hx : ∀ x, x ∈ l → gx_dsc me (A x) (nr x) (nd x) (gg x) ∧ lo ≤ A x ∧ A x + 2 + nr x ≤ lo + 96 ∧ A x + 2 + nr x ≤ 392) (hlo : ∀ b, Q b → lo ≤ b ∧ b < lo + 96) (hR : gx_rem c rs rp Q)
    (k : ∀ c' rs' rp', gx_rem c' rs' rp' (fun b => Q b ∨ ∃ x, x ∈ l ∧ ∃ j, j < nr x ∧ b = A x + 2 + j ∧ gx_yI (me b)) → post (NL, TL, TA, RT, TS, nI c', pF, pR, pP, me, ba, ot, tp, ob, rt, rs', rp', fw, fr, sc, cp, ss)) :
    wpX_rememberFields post (NL, TL, TA, RT, TS, nI c, pF, pR, pP, me, ba, ot, tp, ob, rt, rs, rp, fw, fr, sc, cp, ss) (nI b) (nI l.length) := by
  unfold wpX_rememberFields
  exact ⟨l.length + 1, gx_remF5 (nd := nd) l (l.length + 1) b 0 c rs rp Q (by omega) (by omega) hln hl hx hlo hR k⟩
/-! the roots -/
theorem gx_fwR2 {post : SX → Prop} {K : Nat} (hK : K ≤ 8) {A0 A1 ro : Nat → Nat} (h0 : ∀ r, r < K → A0 (ro r) < 392)
    (h1 : ∀ r, r < K → (fw (A0 (ro r)) = 0 ∧ A1 (ro r) = A0 (ro r)) ∨ (fw (A0 (ro r)) ≠ 0 ∧ fw (A0 (ro r)) = nI (A1 (ro r))))
    (k : ∀ q, (∀ r, r < 8 → q r = if r < K then nI (A1 (ro r)) else rt r) → post (NL, TL, TA, nI K, TS, rc, pF, pR, pP, me, ba, ot, tp, ob, q, rs, rp, fw, fr, sc, cp, ss)) :
    ∀ (n i : Nat) (q : Nat → Int32), K - i < n → i ≤ K → (∀ r, r < 8 → q r = if r < i then nI (A1 (ro r)) else rt r) → (∀ r, r < K → rt r = nI (A0 (ro r))) → wX_forwardRoots_2 post NL TL TA (nI K) TS rc pF pR pP n (nI i) me ba ot tp ob q rs rp fw fr sc cp ss := by
  intro n
  induction n with
  | zero => intro i q h; omega
  | succ n ih =>
    intro i q hn hi hq hrt
    refine pk_le K i (fun h => k q (fun r hr => ?_)) (fun h => ⟨pk_in i 8 (by omega), ?_⟩)
    · have : i = K := by omega
      subst this
      exact hq r hr
    · have qi : q i = nI (A0 (ro i)) := by rw [hq i (by omega), if_neg (by omega), hrt i h]
      have b0 := h0 i h
      rw [nI_clamp (by omega), qi]
      refine ⟨pk_in (A0 (ro i)) 392 b0, ?_⟩
      rw [nI_clamp (by omega)]
      rcases h1 i h with ⟨f0, e⟩ | ⟨f1, e⟩
      · refine nm_r f0 (br_t rfl (nm_r (nI_1 i) (ih (i + 1) q (by omega) (by omega) ?_ hrt)))
        intro r hr
        rw [hq r hr]
        by_cases z : r = i
        · subst z
          rw [if_neg (by omega), if_pos (by omega), hrt r h, e]
        · by_cases z2 : r < i
          · rw [if_pos z2, if_pos (by omega)]
          · rw [if_neg z2, if_neg (by omega)]
      · rw [e] at f1
        refine nm_r e (br_f f1 ⟨pk_in i 8 (by omega), nm_e (nm_r (nI_1 i) (ih (i + 1) _ (by omega) (by omega) ?_ hrt))⟩)
        intro r hr
        by_cases z : r = i
        · subst z
          rw [pk_us, if_pos (by omega)]
        · rw [pk_un z, hq r hr]
          by_cases z2 : r < i
          · rw [if_pos z2, if_pos (by omega)]
          · rw [if_neg z2, if_neg (by omega)]
theorem gx_forwardRoots {post : SX → Prop} {K : Nat} (hK : K ≤ 8) {A0 A1 ro : Nat → Nat} (h0 : ∀ r, r < K → A0 (ro r) < 392)
    (h1 : ∀ r, r < K → (fw (A0 (ro r)) = 0 ∧ A1 (ro r) = A0 (ro r)) ∨ (fw (A0 (ro r)) ≠ 0 ∧ fw (A0 (ro r)) = nI (A1 (ro r))))
    (hrt : ∀ r, r < K → rt r = nI (A0 (ro r)))
    (k : ∀ q, (∀ r, r < 8 → q r = if r < K then nI (A1 (ro r)) else rt r) → post (NL, TL, TA, nI K, TS, rc, pF, pR, pP, me, ba, ot, tp, ob, q, rs, rp, fw, fr, sc, cp, ss)) : wpX_forwardRoots post (NL, TL, TA, nI K, TS, rc, pF, pR, pP, me, ba, ot, tp, ob, rt, rs, rp, fw, fr, sc, cp, ss) := by
  unfold wpX_forwardRoots
  exact ⟨K + 1, gx_fwR2 hK h0 h1 k (K + 1) 0 rt (by omega) (by omega) (fun r hr => by rw [if_neg (by omega)]) hrt⟩
end
end
section
/-! the component's copying pass: context and invariant -/
def gx_obj (ag nr nd : Nat → Nat) (rf : Nat → Nat → Nat) (da : Nat → Nat → Int32) (me : Nat → Int32) (A : Nat → Nat) (x : Nat) : Prop :=
  me (A x) = nI x ∧ me (A x + 1) = nI (nr x + 4 * nd x + 16 * ag x) ∧ (∀ i, i < nr x → me (A x + 2 + i) = nI (A (rf x i))) ∧ (∀ i, i < nd x → me (A x + 2 + nr x + i) = da x i)
theorem gx_obj_fr {ag nr nd : Nat → Nat} {rf : Nat → Nat → Nat} {da : Nat → Nat → Int32} {me me' : Nat → Int32} {A : Nat → Nat} {x : Nat} (h : ∀ a, A x ≤ a → a < A x + gh_w nr nd x → me' a = me a)
    (ho : gx_obj ag nr nd rf da me A x) : gx_obj ag nr nd rf da me' A x := by
  obtain ⟨h1, h2, h3, h4⟩ := ho
  unfold gh_w at h
  refine ⟨?_, ?_, fun i hi => ?_, fun i hi => ?_⟩
  · rw [h _ (by omega) (by omega)]; exact h1
  · rw [h _ (by omega) (by omega)]; exact h2
  · rw [h _ (by omega) (by omega)]; exact h3 i hi
  · rw [h _ (by omega) (by omega)]; exact h4 i hi
/-- a copy: of its fields the first pg are forwarded -/
def gx_new (nr nd : Nat → Nat) (rf : Nat → Nat → Nat) (da : Nat → Nat → Int32) (A na : Nat → Nat) (el : Nat → Prop) (inC : Nat → Prop) (B pg : Nat → Nat) (me : Nat → Int32) (x : Nat) : Prop :=
  me (B x) = nI x ∧ me (B x + 1) = nI (nr x + 4 * nd x + 16 * na x) ∧
  (∀ i, i < nr x → (i < pg x → (el (rf x i) → inC (rf x i) ∧ me (B x + 2 + i) = nI (B (rf x i))) ∧ (¬ el (rf x i) → me (B x + 2 + i) = nI (A (rf x i)))) ∧ (¬ i < pg x → me (B x + 2 + i) = nI (A (rf x i)))) ∧
  (∀ i, i < nd x → me (B x + 2 + nr x + i) = da x i)
theorem gx_new_fr {nr nd : Nat → Nat} {rf : Nat → Nat → Nat} {da : Nat → Nat → Int32} {A na : Nat → Nat} {el inC inC' : Nat → Prop} {B B' pg pg' : Nat → Nat} {me me' : Nat → Int32} {x : Nat}
    (h : ∀ a, B x ≤ a → a < B x + gh_w nr nd x → me' a = me a) (hB : B' x = B x) (hC : ∀ y, inC y → inC' y ∧ B' y = B y) (hp : pg' x = pg x)
    (ho : gx_new nr nd rf da A na el inC B pg me x) : gx_new nr nd rf da A na el inC' B' pg' me' x := by
  obtain ⟨h1, h2, h3, h4⟩ := ho
  unfold gh_w at h
  refine ⟨?_, ?_, fun i hi => ?_, fun i hi => ?_⟩
  · rw [hB, h _ (by omega) (by omega)]; exact h1
  · rw [hB, h _ (by omega) (by omega)]; exact h2
  · rw [hB, h _ (by omega) (by omega), hp]
    refine ⟨fun hq => ⟨fun e => ?_, ((h3 i hi).1 hq).2⟩, (h3 i hi).2⟩
    have g := ((h3 i hi).1 hq).1 e
    have c := hC _ g.1
    rw [c.2]
    exact ⟨c.1, g.2⟩
  · rw [hB, h _ (by omega) (by omega)]; exact h4 i hi
def gx_inC (D E : Nat → List Nat) (x : Nat) : Prop := ∃ sp, sp < 3 ∧ x ∈ D sp ++ E sp
/-- what a pass takes for granted -/
def gx_C (ids : List Nat) (ag nr nd : Nat → Nat) (rf : Nat → Nat → Nat) (A : Nat → Nat) (P : Nat) (el R : Nat → Prop) (tb te na : Nat → Nat) : Prop :=
  A 0 = 0 ∧
  (∀ x, x ∈ ids → 1 ≤ x ∧ x ≤ 1000000 ∧ nr x ≤ 3 ∧ nd x ≤ 2 ∧ ag x ≤ P ∧ na x ≤ P ∧ 8 ≤ A x ∧ A x + gh_w nr nd x ≤ 392) ∧
  (∀ x y, x ∈ ids → y ∈ ids → x ≠ y → A x + gh_w nr nd x ≤ A y ∨ A y + gh_w nr nd y ≤ A x) ∧
  (∀ x i, x ∈ ids → i < nr x → rf x i = 0 ∨ rf x i ∈ ids) ∧
  (∀ sp x, sp < 3 → x ∈ ids → A x + gh_w nr nd x ≤ tb sp ∨ te sp ≤ A x) ∧
  (∀ sp sq, sp < 3 → sq < 3 → sp ≠ sq → te sp ≤ tb sq ∨ te sq ≤ tb sp) ∧
  (∀ sp, sp < 3 → 8 ≤ tb sp ∧ tb sp ≤ te sp ∧ te sp ≤ 392) ∧
  (∀ sp l, sp < 3 → l.Nodup → (∀ x, x ∈ l → el x ∧ gh_sp P (na x) = sp) → tb sp + gh_S (gh_w nr nd) l ≤ te sp) ∧
  (∀ x, el x → x ∈ ids) ∧ (∀ x i, R x → i < nr x → el (rf x i) → R (rf x i)) ∧ 1 ≤ P ∧ P ≤ 3
/-- the lists, the addresses, the three counters of one space -/
def gx_Is (nr nd na : Nat → Nat) (P : Nat) (el R : Nat → Prop) (tb c0 : Nat → Nat) (D E : Nat → List Nat) (B : Nat → Nat) (fr sc cp : Nat → Int32) (sp : Nat) : Prop :=
  (D sp ++ E sp).Nodup ∧ (∀ x, x ∈ D sp ++ E sp → el x ∧ R x ∧ gh_sp P (na x) = sp) ∧ gh_lay (gh_w nr nd) B (tb sp) (D sp ++ E sp) ∧
  sc sp = nI (tb sp + gh_S (gh_w nr nd) (D sp)) ∧ fr sp = nI (tb sp + gh_S (gh_w nr nd) (D sp ++ E sp)) ∧ cp sp = nI (c0 sp + (D sp ++ E sp).length)
def gx_I (ids : List Nat) (ag nr nd : Nat → Nat) (rf : Nat → Nat → Nat) (da : Nat → Nat → Int32) (A : Nat → Nat) (P : Nat) (el R : Nat → Prop) (tb na c0 : Nat → Nat)
    (D E : Nat → List Nat) (B pg : Nat → Nat) (cur : Nat) (me fw fr sc cp : Nat → Int32) (pP : Int32) : Prop :=
  (∀ sp, sp < 3 → gx_Is nr nd na P el R tb c0 D E B fr sc cp sp) ∧
  (fw 0 = 0 ∧ ∀ x, x ∈ ids → (gx_inC D E x → fw (A x) = nI (B x)) ∧ (¬ gx_inC D E x → fw (A x) = 0)) ∧
  (∀ x, x ∈ ids → gx_obj ag nr nd rf da me A x) ∧
  (∀ x, gx_inC D E x → gx_new nr nd rf da A na el (gx_inC D E) B pg me x) ∧
  ((∀ sp x, sp < 3 → x ∈ D sp → pg x = nr x) ∧ (∀ x, x ≠ 0 → (∀ sp, sp < 3 → x ∉ D sp) → x ≠ cur → pg x = 0) ∧ (cur = 0 ∨ gx_inC D E cur)) ∧
  pP = nI (gh_S (fun x => if ag x < P then gh_w nr nd x else 0) (D 2 ++ E 2))
section
variable {ids : List Nat} {ag nr nd : Nat → Nat} {rf : Nat → Nat → Nat} {da : Nat → Nat → Int32} {ro : Nat → Nat} {A tb te na c0 B pg : Nat → Nat} {P cur : Nat} {el R : Nat → Prop} {D E : Nat → List Nat} {me fw fr sc cp : Nat → Int32} {pP : Int32}
theorem gx_inC_el (I : gx_I ids ag nr nd rf da A P el R tb na c0 D E B pg cur me fw fr sc cp pP) {x : Nat} (h : gx_inC D E x) : el x ∧ R x := by
  obtain ⟨sp, hs, hx⟩ := h
  have h2 := (I.1 sp hs).2.1 x hx
  exact ⟨h2.1, h2.2.1⟩
theorem gx_inC_sp (I : gx_I ids ag nr nd rf da A P el R tb na c0 D E B pg cur me fw fr sc cp pP) {x sp : Nat} (hs : sp < 3) (h : x ∈ D sp ++ E sp) : gh_sp P (na x) = sp := ((I.1 sp hs).2.1 x h).2.2
/-- where a copy lies -/
theorem gx_inC_B (C : gx_C ids ag nr nd rf A P el R tb te na) (I : gx_I ids ag nr nd rf da A P el R tb na c0 D E B pg cur me fw fr sc cp pP) {x : Nat} (h : gx_inC D E x) :
    ∃ sp, sp < 3 ∧ x ∈ D sp ++ E sp ∧ tb sp ≤ B x ∧ B x + gh_w nr nd x ≤ te sp := by
  obtain ⟨sp, hs, hx⟩ := h
  obtain ⟨i1, i2, i3, _⟩ := I.1 sp hs
  have h1 := gh_lay_in _ _ x i3 hx
  have h2 := C.2.2.2.2.2.2.2.1 sp _ hs i1 (fun y hy => ⟨(i2 y hy).1, (i2 y hy).2.2⟩)
  exact ⟨sp, hs, hx, h1.1, by omega⟩
theorem gx_BB (C : gx_C ids ag nr nd rf A P el R tb te na) (I : gx_I ids ag nr nd rf da A P el R tb na c0 D E B pg cur me fw fr sc cp pP) {x y : Nat} (hx : gx_inC D E x) (hy : gx_inC D E y) (hne : x ≠ y) :
    B x + gh_w nr nd x ≤ B y ∨ B y + gh_w nr nd y ≤ B x := by
  obtain ⟨s1, h1, m1, a1, b1⟩ := gx_inC_B C I hx
  obtain ⟨s2, h2, m2, a2, b2⟩ := gx_inC_B C I hy
  by_cases e : s1 = s2
  · subst e
    exact gh_lay_dis _ _ x y (I.1 s1 h1).2.2.1 m1 m2 hne
  · have := C.2.2.2.2.2.1 s1 s2 h1 h2 e
    omega
theorem gx_AB (C : gx_C ids ag nr nd rf A P el R tb te na) (I : gx_I ids ag nr nd rf da A P el R tb na c0 D E B pg cur me fw fr sc cp pP) {x y : Nat} (hx : x ∈ ids) (hy : gx_inC D E y) :
    A x + gh_w nr nd x ≤ B y ∨ B y + gh_w nr nd y ≤ A x := by
  obtain ⟨s2, h2, m2, a2, b2⟩ := gx_inC_B C I hy
  have := C.2.2.2.2.1 s2 x h2 hx
  omega
theorem gx_B8 (C : gx_C ids ag nr nd rf A P el R tb te na) (I : gx_I ids ag nr nd rf da A P el R tb na c0 D E B pg cur me fw fr sc cp pP) {x : Nat} (h : gx_inC D E x) :
    8 ≤ B x ∧ B x + gh_w nr nd x ≤ 392 := by
  obtain ⟨s2, h2, m2, a2, b2⟩ := gx_inC_B C I h
  have := C.2.2.2.2.2.2.1 s2 h2
  omega
/-- one more copy -/
theorem gx_I_copy (C : gx_C ids ag nr nd rf A P el R tb te na) (I : gx_I ids ag nr nd rf da A P el R tb na c0 D E B pg cur me fw fr sc cp pP) {y sp t : Nat} {me' : Nat → Int32} {pP' : Int32}
    (he : el y) (hR : R y) (hn : ¬ gx_inC D E y) (hsp : gh_sp P (na y) = sp) (ht : t = tb sp + gh_S (gh_w nr nd) (D sp ++ E sp))
    (hm : ∀ a, me' a = if a = t + 1 then nI (nr y + 4 * nd y + 16 * na y) else if t ≤ a ∧ a < t + gh_w nr nd y then me (A y + (a - t)) else me a)
    (hP : pP' = nI (gh_S (fun x => if ag x < P then gh_w nr nd x else 0) (D 2 ++ E 2) + (if sp = 2 ∧ ag y < P then gh_w nr nd y else 0))) :
    gx_I ids ag nr nd rf da A P el R tb na c0 D (gh_u E sp (E sp ++ [y])) (gh_u B y t) pg cur me' (upd fw (A y) (nI t)) (upd fr sp (nI (t + gh_w nr nd y))) sc (upd cp sp (cp sp + 1)) pP' ∧
    (∀ x, gx_inC D E x → gx_inC D (gh_u E sp (E sp ++ [y])) x ∧ gh_u B y t x = B x) ∧ gx_inC D (gh_u E sp (E sp ++ [y])) y := by
  have hy : y ∈ ids := C.2.2.2.2.2.2.2.2.1 y he
  have hy0 := C.2.1 y hy
  have hsp3 : sp < 3 := by rw [← hsp]; exact gh_sp3
  have ne : ∀ x, gx_inC D E x → x ≠ y := fun x hx e => hn (e ▸ hx)
  have hC : ∀ x, gx_inC D E x → gx_inC D (gh_u E sp (E sp ++ [y])) x := by
    intro x hx
    obtain ⟨s, hs, hm⟩ := hx
    refine ⟨s, hs, ?_⟩
    by_cases z : s = sp
    · subst z
      rw [gh_us, ← List.append_assoc]
      exact List.mem_append.mpr (Or.inl hm)
    · rw [gh_un z]; exact hm
  have hCy : gx_inC D (gh_u E sp (E sp ++ [y])) y := ⟨sp, hsp3, by rw [gh_us]; exact List.mem_append.mpr (Or.inr (List.mem_append.mpr (Or.inr (List.mem_singleton.mpr rfl))))⟩
  have hC' : ∀ x, gx_inC D (gh_u E sp (E sp ++ [y])) x → x = y ∨ gx_inC D E x := by
    intro x hx
    obtain ⟨s, hs, hm⟩ := hx
    by_cases z : s = sp
    · subst z
      rw [gh_us, ← List.append_assoc] at hm
      rcases List.mem_append.mp hm with e | e
      · exact Or.inr ⟨s, hs, e⟩
      · exact Or.inl (List.mem_singleton.mp e)
    · rw [gh_un z] at hm
      exact Or.inr ⟨s, hs, hm⟩
  have hcap : t + gh_w nr nd y ≤ te sp := by
    obtain ⟨i1, i2, i3, _⟩ := I.1 sp hsp3
    have h := C.2.2.2.2.2.2.2.1 sp (D sp ++ E sp ++ [y]) hsp3 ?_ ?_
    · rw [gh_S_app] at h
      simp only [gh_S] at h
      omega
    · rw [List.nodup_append]
      refine ⟨i1, by simp, ?_⟩
      intro a ha b hb
      rw [List.mem_singleton] at hb
      subst hb
      exact ne a ⟨sp, hsp3, ha⟩
    · intro x hx
      rcases List.mem_append.mp hx with e | e
      · exact ⟨(i2 x e).1, (i2 x e).2.2⟩
      · rw [List.mem_singleton] at e
        subst e
        exact ⟨he, hsp⟩
  have htb : tb sp ≤ t := by omega
  -- old objects and old copies are not touched
  have frA : ∀ x, x ∈ ids → ∀ a, A x ≤ a → a < A x + gh_w nr nd x → me' a = me a := by
    intro x hx a h1 h2
    have := C.2.2.2.2.1 sp x hsp3 hx
    have hw := gh_w2 (nr := nr) (nd := nd) (x := y)
    rw [hm a, if_neg (by omega), if_neg (by omega)]
  have frB : ∀ x, gx_inC D E x → ∀ a, B x ≤ a → a < B x + gh_w nr nd x → me' a = me a := by
    intro x hx a h1 h2
    have hw := gh_w2 (nr := nr) (nd := nd) (x := y)
    have hd : a < t ∨ t + gh_w nr nd y ≤ a := by
      obtain ⟨s, hs, hm, b1, b2⟩ := gx_inC_B C I hx
      by_cases z : s = sp
      · subst z
        have := gh_lay_in _ _ x (I.1 s hs).2.2.1 hm
        omega
      · have := C.2.2.2.2.2.1 s sp hs hsp3 z
        omega
    rw [hm a, if_neg (by omega), if_neg (by omega)]
  refine ⟨⟨?_, ?_, ?_, ?_, ?_, ?_⟩, fun x hx => ⟨hC x hx, gh_un (ne x hx)⟩, hCy⟩
  · intro s hs
    obtain ⟨i1, i2, i3, i4, i5, i6⟩ := I.1 s hs
    by_cases z : s = sp
    · subst z
      unfold gx_Is
      rw [gh_us, pk_us, pk_us, ← List.append_assoc]
      refine ⟨?_, ?_, ?_, i4, ?_, ?_⟩
      · rw [List.nodup_append]
        refine ⟨i1, by simp, ?_⟩
        intro a ha b hb
        rw [List.mem_singleton] at hb
        subst hb
        exact ne a ⟨s, hs, ha⟩
      · intro x hx
        rcases List.mem_append.mp hx with e | e
        · exact i2 x e
        · rw [List.mem_singleton] at e
          subst e
          exact ⟨he, hR, hsp⟩
      · rw [gh_lay_app]
        refine ⟨gh_lay_congr _ _ (fun x hx => gh_un (ne x ⟨s, hs, hx⟩)) i3, ?_⟩
        exact ⟨by rw [gh_us, ht], trivial⟩
      · rw [gh_S_app, ht]
        simp only [gh_S]
        congr 1
        omega
      · rw [i6, nI_1, List.length_append (bs := [y])]
        congr 1
    · unfold gx_Is
      rw [gh_un z, pk_un z, pk_un z]
      exact ⟨i1, i2, gh_lay_congr _ _ (fun x hx => gh_un (ne x ⟨s, hs, hx⟩)) i3, i4, i5, i6⟩
  · obtain ⟨f0, f1⟩ := I.2.1
    refine ⟨by rw [pk_un (by omega)]; exact f0, ?_⟩
    intro x hx
    by_cases z : x = y
    · subst z
      rw [pk_us, gh_us]
      exact ⟨fun _ => rfl, fun c => absurd hCy c⟩
    · have hw1 := gh_w2 (nr := nr) (nd := nd) (x := x)
      have hw2 := gh_w2 (nr := nr) (nd := nd) (x := y)
      have hA : A x ≠ A y := by
        have := C.2.2.1 x y hx hy z
        omega
      rw [pk_un hA, gh_un z]
      refine ⟨fun c => (f1 x hx).1 ((hC' x c).elim (fun e => absurd e z) id), fun c => (f1 x hx).2 (fun d => c (hC x d))⟩
  · intro x hx
    exact gx_obj_fr (frA x hx) (I.2.2.1 x hx)
  · intro x hx
    rcases hC' x hx with e | e
    · subst e
      obtain ⟨o1, o2, o3, o4⟩ := I.2.2.1 x hy
      have pg0 : pg x = 0 := by
        refine I.2.2.2.2.1.2.1 x (by omega) (fun s hs c => hn ⟨s, hs, List.mem_append.mpr (Or.inl c)⟩) ?_
        intro c
        rcases I.2.2.2.2.1.2.2 with d | d
        · omega
        · rw [← c] at d; exact hn d
      have hw : gh_w nr nd x = 2 + nr x + nd x := rfl
      unfold gx_new
      rw [gh_us]
      refine ⟨?_, ?_, fun i hi => ⟨fun c => by omega, fun _ => ?_⟩, fun i hi => ?_⟩
      · rw [hm, if_neg (by omega), if_pos (by omega), Nat.sub_self]; exact o1
      · rw [hm, if_pos rfl]
      · rw [hm, if_neg (by omega), if_pos (by omega)]
        have e : A x + (t + 2 + i - t) = A x + 2 + i := by omega
        rw [e]
        exact o3 i hi
      · rw [hm, if_neg (by omega), if_pos (by omega)]
        have e : A x + (t + 2 + nr x + i - t) = A x + 2 + nr x + i := by omega
        rw [e]
        exact o4 i hi
    · exact gx_new_fr (frB x e) (gh_un (ne x e)) (fun z hz => ⟨hC z hz, gh_un (ne z hz)⟩) rfl (I.2.2.2.1 x e)
  · obtain ⟨p1, p2, p3⟩ := I.2.2.2.2.1
    exact ⟨p1, p2, p3.elim Or.inl (fun d => Or.inr (hC cur d))⟩
  · rw [hP]
    congr 1
    by_cases z : sp = 2
    · subst z
      rw [gh_us, ← List.append_assoc, gh_S_app (b := [y])]
      simp only [gh_S, true_and, Nat.add_zero]
    · rw [gh_un (fun c => z c.symm), if_neg (fun c => z c.1), Nat.add_zero]
/-- a field of the copy under scan is forwarded -/
theorem gx_I_scan (C : gx_C ids ag nr nd rf A P el R tb te na) (I : gx_I ids ag nr nd rf da A P el R tb na c0 D E B pg cur me fw fr sc cp pP) {i : Nat} {r : Int32}
    (hc : gx_inC D E cur) (hD : ∀ sp, sp < 3 → cur ∉ D sp) (hi : i < nr cur) (hp : pg cur = i) (h1 : el (rf cur i) → gx_inC D E (rf cur i) ∧ r = nI (B (rf cur i))) (h2 : ¬ el (rf cur i) → r = nI (A (rf cur i))) :
    gx_I ids ag nr nd rf da A P el R tb na c0 D E B (gh_u pg cur (i + 1)) cur (upd me (B cur + 2 + i) r) fw fr sc cp pP := by
  obtain ⟨i1, i2, i3, i4, ⟨p1, p2, p3⟩, i6⟩ := I
  have I : gx_I ids ag nr nd rf da A P el R tb na c0 D E B pg cur me fw fr sc cp pP := ⟨i1, i2, i3, i4, ⟨p1, p2, p3⟩, i6⟩
  have hw : gh_w nr nd cur = 2 + nr cur + nd cur := rfl
  refine ⟨i1, i2, ?_, ?_, ⟨?_, ?_, p3⟩, i6⟩
  · intro x hx
    refine gx_obj_fr (fun a b1 b2 => pk_un ?_) (i3 x hx)
    have := gx_AB C I hx hc
    omega
  · intro x hx
    by_cases z : x = cur
    · subst z
      obtain ⟨o1, o2, o3, o4⟩ := i4 x hx
      unfold gx_new
      rw [gh_us]
      refine ⟨?_, ?_, fun j hj => ?_, fun j hj => ?_⟩
      · rw [pk_un (by omega)]; exact o1
      · rw [pk_un (by omega)]; exact o2
      · by_cases e : j = i
        · subst e
          rw [pk_us]
          exact ⟨fun _ => ⟨h1, h2⟩, fun c => by omega⟩
        · rw [pk_un (by omega)]
          have o := o3 j hj
          rw [hp] at o
          exact ⟨fun c => o.1 (by omega), fun c => o.2 (by omega)⟩
      · rw [pk_un (by omega)]; exact o4 j hj
    · refine gx_new_fr (fun a b1 b2 => pk_un ?_) rfl (fun y hy => ⟨hy, rfl⟩) (gh_un z) (i4 x hx)
      have := gx_BB C I hx hc z
      omega
  · intro sp x hs hx
    rw [gh_un (fun (e : x = cur) => hD sp hs (e ▸ hx))]
    exact p1 sp x hs hx
  · intro x hx0 hx hne
    rw [gh_un hne]
    exact p2 x hx0 hx hne
/-- a copy is scanned -/
theorem gx_I_done (I : gx_I ids ag nr nd rf da A P el R tb na c0 D E B pg cur me fw fr sc cp pP) {sp : Nat} {rest : List Nat} (hs : sp < 3) (hE : E sp = cur :: rest) (hp : pg cur = nr cur) {v : Int32}
    (hv : v = nI (tb sp + gh_S (gh_w nr nd) (D sp) + gh_w nr nd cur)) :
    gx_I ids ag nr nd rf da A P el R tb na c0 (gh_u D sp (D sp ++ [cur])) (gh_u E sp rest) B pg 0 me fw fr (upd sc sp v) cp pP ∧
    (∀ x, gx_inC (gh_u D sp (D sp ++ [cur])) (gh_u E sp rest) x ↔ gx_inC D E x) := by
  have hL : ∀ s, gh_u D sp (D sp ++ [cur]) s ++ gh_u E sp rest s = D s ++ E s := by
    intro s
    by_cases z : s = sp
    · subst z
      rw [gh_us, gh_us, hE, List.append_assoc]
      rfl
    · rw [gh_un z, gh_un z]
  have hC : ∀ x, gx_inC (gh_u D sp (D sp ++ [cur])) (gh_u E sp rest) x ↔ gx_inC D E x := by
    intro x
    unfold gx_inC
    constructor
    · rintro ⟨s, h1, h2⟩
      rw [hL] at h2
      exact ⟨s, h1, h2⟩
    · rintro ⟨s, h1, h2⟩
      rw [← hL] at h2
      exact ⟨s, h1, h2⟩
  have hCe : gx_inC (gh_u D sp (D sp ++ [cur])) (gh_u E sp rest) = gx_inC D E := funext fun x => propext (hC x)
  obtain ⟨i1, i2, i3, i4, ⟨p1, p2, p3⟩, i6⟩ := I
  refine ⟨⟨?_, ?_, i3, ?_, ⟨?_, ?_, Or.inl rfl⟩, ?_⟩, hC⟩
  · intro s h
    obtain ⟨j1, j2, j3, j4, j5, j6⟩ := i1 s h
    unfold gx_Is
    rw [hL]
    refine ⟨j1, j2, j3, ?_, j5, j6⟩
    by_cases z : s = sp
    · subst z
      rw [pk_us, gh_us, gh_S_app, hv]
      simp only [gh_S]
      congr 1
      omega
    · rw [pk_un z, gh_un z]
      exact j4
  · rw [hCe]; exact i2
  · rw [hCe]; exact i4
  · intro s x h hx
    by_cases z : s = sp
    · subst z
      rw [gh_us] at hx
      rcases List.mem_append.mp hx with e | e
      · exact p1 s x h e
      · rw [List.mem_singleton] at e
        subst e
        exact hp
    · rw [gh_un z] at hx
      exact p1 s x h hx
  · intro x hx0 hx _
    have hx1 : ∀ s, s < 3 → x ∉ D s := by
      intro s h c
      apply hx s h
      by_cases z : s = sp
      · subst z
        rw [gh_us]
        exact List.mem_append.mpr (Or.inl c)
      · rw [gh_un z]; exact c
    refine p2 x hx0 hx1 (fun e => ?_)
    subst e
    apply hx sp hs
    rw [gh_us]
    exact List.mem_append.mpr (Or.inr (List.mem_singleton.mpr rfl))
  · rw [hL]
    exact i6
theorem gx_I_start (I : gx_I ids ag nr nd rf da A P el R tb na c0 D E B pg 0 me fw fr sc cp pP) {x sp : Nat} {rest : List Nat} (hs : sp < 3) (hE : E sp = x :: rest) :
    gx_I ids ag nr nd rf da A P el R tb na c0 D E B pg x me fw fr sc cp pP ∧ gx_inC D E x ∧ (∀ s, s < 3 → x ∉ D s) := by
  have hx : gx_inC D E x := ⟨sp, hs, by rw [hE]; exact List.mem_append.mpr (Or.inr (List.mem_cons_self ..))⟩
  have hD : ∀ s, s < 3 → x ∉ D s := by
    intro s h c
    have e1 := gx_inC_sp I hs (by rw [hE]; exact List.mem_append.mpr (Or.inr (List.mem_cons_self ..))) (x := x)
    have e2 := gx_inC_sp I h (List.mem_append.mpr (Or.inl c)) (x := x)
    have : s = sp := e2.symm.trans e1
    subst this
    have hn := (I.1 s h).1
    rw [List.nodup_append] at hn
    exact hn.2.2 x c x (by rw [hE]; exact List.mem_cons_self ..) rfl
  obtain ⟨i1, i2, i3, i4, ⟨p1, p2, p3⟩, i6⟩ := I
  refine ⟨⟨i1, i2, i3, i4, ⟨p1, ?_, Or.inr hx⟩, i6⟩, hx, hD⟩
  intro z hz0 hz hne
  exact p2 z hz0 hz hz0
end
end
section
/-! the component's copying pass: the walks -/
/-- fields of the pass: mode, raise -/
def gx_Md (ids : List Nat) (ag A na : Nat → Nat) (P : Nat) (el : Nat → Prop) (TA pF pR : Int32) : Prop :=
  TA = nI P ∧ ((pF = 0 ∧ ∀ x, x ∈ ids → (el x ↔ A x < 200)) ∨ (pF ≠ 0 ∧ ∀ x, x ∈ ids → el x)) ∧ ∃ rz, rz ≤ 1 ∧ pR = nI rz ∧ ∀ x, x ∈ ids → na x = if ag x < P then ag x + rz else ag x
section
variable {NL TL TA RT TS rc pF pR pP : Int32} {me ba ot tp ob rt rs rp fw fr sc cp ss : Nat → Int32} {ids : List Nat} {ag nr nd : Nat → Nat} {rf : Nat → Nat → Nat} {da : Nat → Nat → Int32} {ro : Nat → Nat} {A tb te na c0 B pg : Nat → Nat} {P cur : Nat} {el R : Nat → Prop} {D E : Nat → List Nat}
theorem gx_spaceOfAge {post : Int32 → Prop} {a : Nat} (h : TA = nI P) (hP : P ≤ 3) (ha : a ≤ 3) (k : post (nI (gh_sp P a))) : wpX_spaceOfAge post (NL, TL, TA, RT, TS, rc, pF, pR, pP, me, ba, ot, tp, ob, rt, rs, rp, fw, fr, sc, cp, ss) (nI a) := by
  subst h
  unfold wpX_spaceOfAge
  refine pk_eq a 0 (fun e => ?_) (fun e => pk_le P a (fun h2 => ?_) (fun h2 => ?_))
  · rw [(gh_sp0 (P := P)).mpr e] at k; exact k
  · rw [(gh_sp2 (P := P)).mpr ⟨e, h2⟩] at k; exact k
  · rw [(gh_sp1 (P := P)).mpr ⟨e, h2⟩] at k; exact k
theorem gx_copy49 {post : SX → Prop} {ay t w sp a1 a2 : Nat} {dd : Int32} (h1 : ay + w ≤ 392) (h2 : t + w ≤ 392) (h3 : ay + w ≤ t ∨ t + w ≤ ay) (hw : 2 ≤ w) (hs : sp < 3) (hTA : TA = nI P) (hP : P ≤ 3) (ha1 : a1 ≤ 3) (ha2 : a2 ≤ 4)
    (hdd : (me (ay + 1) &&& 15) + 16 * nI a2 = dd)
    (k : ∀ me' pP', (∀ a, me' a = if a = t + 1 then dd else if t ≤ a ∧ a < t + w then me (ay + (a - t)) else me a) → pP' = pP + nI (if a1 < a2 ∧ a2 = P then w else 0) →
      post (NL, TL, TA, RT, TS, rc, pF, pR, pP', me', ba, ot, tp, ob, rt, rs, rp, upd fw ay (nI t), upd fr sp (nI (t + w)), sc, upd cp sp (cp sp + 1), ss)) :
    ∀ (n i : Nat) (m : Nat → Int32), w - i < n → i ≤ w → (∀ a, m a = if t ≤ a ∧ a < t + i then me (ay + (a - t)) else me a) →
      wX_copyObject_49 post (nI ay) (nI a1) (nI a2) (nI sp) (nI w) (nI t) NL TL TA RT TS rc pF pR pP n (nI i) m ba ot tp ob rt rs rp fw fr sc cp ss := by
  subst hTA
  intro n
  induction n with
  | zero => intro i m h; omega
  | succ n ih =>
    intro i m hn hi hm
    refine pk_le w i (fun h => ?_) (fun h => ?_)
    · have : i = w := by omega
      subst this
      rw [nI_1 ay, nI_1 t]
      refine ⟨pk_in (ay + 1) 392 (by omega), pk_in (t + 1) 392 (by omega), ?_⟩
      have em : m (ay + 1) = me (ay + 1) := by rw [hm, if_neg (by omega)]
      rw [nI_clamp (n := ay + 1) (by omega), nI_clamp (n := t + 1) (by omega), em, hdd]
      refine nm_e ⟨pk_in sp 3 hs, ?_⟩
      rw [nI_clamp (n := sp) (by omega), nI_add t i]
      refine nm_e ⟨pk_in sp 3 hs, pk_in sp 3 hs, nm_e ?_⟩
      have hme : ∀ a, upd m (t + 1) dd a = if a = t + 1 then dd else if t ≤ a ∧ a < t + i then me (ay + (a - t)) else me a := by
        intro a
        by_cases z : a = t + 1
        · rw [z, pk_us, if_pos rfl]
        · rw [pk_un z, if_neg z, hm]
      rw [nI_clamp (n := ay) (by omega)]
      refine pk_le a2 a1 (fun h => ⟨pk_in ay 392 (by omega), nm_e (k _ _ hme ?_)⟩) (fun h => pk_eq a2 P (fun e => nm_e ⟨pk_in ay 392 (by omega), nm_e (k _ _ hme ?_)⟩) (fun e => ⟨pk_in ay 392 (by omega), nm_e (k _ _ hme ?_)⟩))
      · rw [if_neg (by omega), nI_0, Int32.add_zero]
      · rw [if_pos ⟨h, e⟩]
      · rw [if_neg (fun c => e c.2), nI_0, Int32.add_zero]
    · rw [nI_add ay i, nI_add t i]
      refine ⟨pk_in (ay + i) 392 (by omega), pk_in (t + i) 392 (by omega), ?_⟩
      rw [nI_clamp (n := ay + i) (by omega), nI_clamp (n := t + i) (by omega)]
      refine nm_e (nm_r (nI_1 i) (ih (i + 1) _ (by omega) (by omega) ?_))
      intro a
      have em : m (ay + i) = me (ay + i) := by rw [hm, if_neg (by omega)]
      by_cases z : a = t + i
      · subst z
        rw [pk_us, if_pos (by omega), em]
        congr 1
        omega
      · rw [pk_un z, hm]
        by_cases z2 : t ≤ a ∧ a < t + i
        · rw [if_pos z2, if_pos (by omega)]
        · rw [if_neg z2, if_neg (by omega)]
theorem gx_copy23 {post : SX → Prop} (C : gx_C ids ag nr nd rf A P el R tb te na) (I : gx_I ids ag nr nd rf da A P el R tb na c0 D E B pg cur me fw fr sc cp pP) (hTA : TA = nI P) {y : Nat} (he : el y) (hR : R y) (hn : ¬ gx_inC D E y) (hna : ag y ≤ na y)
    (k : ∀ E' B' me' fw' fr' cp' pP', gx_I ids ag nr nd rf da A P el R tb na c0 D E' B' pg cur me' fw' fr' sc cp' pP' → (∀ x, gx_inC D E x → gx_inC D E' x ∧ B' x = B x) → gx_inC D E' y → (∀ s, ∃ t, E' s = E s ++ t) →
      post (NL, TL, TA, RT, TS, rc, pF, pR, pP', me', ba, ot, tp, ob, rt, rs, rp, fw', fr', sc, cp', ss)) : wX_copyObject_23 post (nI (A y)) (nI (ag y)) (nI (na y)) NL TL TA RT TS rc pF pR pP me ba ot tp ob rt rs rp fw fr sc cp ss := by
  have hy : y ∈ ids := C.2.2.2.2.2.2.2.2.1 y he
  have hb := C.2.1 y hy
  have hP : P ≤ 3 := C.2.2.2.2.2.2.2.2.2.2.2
  have hP1 : 1 ≤ P := C.2.2.2.2.2.2.2.2.2.2.1
  have ho := I.2.2.1 y hy
  have hw2 := gh_w2 (nr := nr) (nd := nd) (x := y)
  have hsp3 : gh_sp P (na y) < 3 := gh_sp3
  have hd : gx_dsc me (A y) (nr y) (nd y) (ag y) := ⟨by omega, by omega, by omega, by omega, ho.2.1⟩
  obtain ⟨i1, i2, i3, i4, i5, i6⟩ := I.1 _ hsp3
  have hcap : tb (gh_sp P (na y)) + gh_S (gh_w nr nd) (D (gh_sp P (na y)) ++ E (gh_sp P (na y))) + gh_w nr nd y ≤ te (gh_sp P (na y)) := by
    have h := C.2.2.2.2.2.2.2.1 _ (D (gh_sp P (na y)) ++ E (gh_sp P (na y)) ++ [y]) hsp3 ?_ ?_
    · rw [gh_S_app (b := [y])] at h
      simp only [gh_S] at h
      omega
    · rw [List.nodup_append]
      refine ⟨i1, by simp, ?_⟩
      intro a ha b hb
      rw [List.mem_singleton] at hb
      subst hb
      exact fun e => hn ⟨_, hsp3, e ▸ ha⟩
    · intro x hx
      rcases List.mem_append.mp hx with e | e
      · exact ⟨(i2 x e).1, (i2 x e).2.2⟩
      · rw [List.mem_singleton] at e
        subst e
        exact ⟨he, rfl⟩
  have hte := C.2.2.2.2.2.2.1 _ hsp3
  have hdis := C.2.2.2.2.1 _ y hsp3 hy
  unfold wX_copyObject_23
  refine gx_spaceOfAge hTA hP (by omega) (gx_weightAt hd ⟨pk_in _ 3 hsp3, ?_⟩)
  rw [nI_clamp (n := gh_sp P (na y)) (by omega)]
  refine nm_r i5 ⟨gh_w nr nd y + 1, ?_⟩
  refine gx_copy49 (dd := nI (nr y + 4 * nd y + 16 * na y)) (w := gh_w nr nd y) (by omega) (by omega) (by omega) hw2 hsp3 hTA hP (by omega) (by omega) ?_ (fun me' pP' hm hpp => ?_) (gh_w nr nd y + 1) 0 me (by omega) (by omega) (fun a => by rw [if_neg (by omega)])
  · rw [ho.2.1, gh_d15 _ (by omega) _ (by omega) _ (by omega)]
    have e : (16 : Int32) * nI (na y) = nI (16 * na y) := by rw [← pk_mul]; rfl
    rw [e, nI_add]
  · have hc := gx_I_copy C I (y := y) (me' := me') (pP' := pP') he hR hn rfl rfl hm (by
      rw [hpp, I.2.2.2.2.2, nI_add]
      congr 2
      by_cases z : ag y < na y ∧ na y = P
      · rw [if_pos z, if_pos ⟨gh_sp2.mpr (by omega), by omega⟩]
      · rw [if_neg z, if_neg]
        intro c
        have := gh_sp2.mp c.1
        exact z (by omega))
    refine k _ _ _ _ _ _ _ hc.1 hc.2.1 hc.2.2 (fun s => ?_)
    by_cases z : s = gh_sp P (na y)
    · subst z; exact ⟨[y], gh_us⟩
    · exact ⟨[], by rw [gh_un z, List.append_nil]⟩
theorem gx_copyObject {post : SX → Prop} (C : gx_C ids ag nr nd rf A P el R tb te na) (I : gx_I ids ag nr nd rf da A P el R tb na c0 D E B pg cur me fw fr sc cp pP) (hM : gx_Md ids ag A na P el TA pF pR) {y : Nat} (he : el y) (hR : R y) (hn : ¬ gx_inC D E y)
    (k : ∀ E' B' me' fw' fr' cp' pP', gx_I ids ag nr nd rf da A P el R tb na c0 D E' B' pg cur me' fw' fr' sc cp' pP' → (∀ x, gx_inC D E x → gx_inC D E' x ∧ B' x = B x) → gx_inC D E' y → (∀ s, ∃ t, E' s = E s ++ t) →
      post (NL, TL, TA, RT, TS, rc, pF, pR, pP', me', ba, ot, tp, ob, rt, rs, rp, fw', fr', sc, cp', ss)) : wpX_copyObject post (NL, TL, TA, RT, TS, rc, pF, pR, pP, me, ba, ot, tp, ob, rt, rs, rp, fw, fr, sc, cp, ss) (nI (A y)) := by
  have hy : y ∈ ids := C.2.2.2.2.2.2.2.2.1 y he
  have hb := C.2.1 y hy
  have hP : P ≤ 3 := C.2.2.2.2.2.2.2.2.2.2.2
  have ho := I.2.2.1 y hy
  have hw2 := gh_w2 (nr := nr) (nd := nd) (x := y)
  have hd : gx_dsc me (A y) (nr y) (nd y) (ag y) := ⟨by omega, by omega, by omega, by omega, ho.2.1⟩
  obtain ⟨hTA, _, rz, hrz, hpR, hna⟩ := hM
  have hn1 := hna y hy
  unfold wpX_copyObject
  refine gx_ageAt hd (pk_le P (ag y) (fun h => ?_) (fun h => nm_r (e' := nI (na y)) ?_ ?_) hTA)
  · have e : nI (ag y) = nI (na y) := by rw [hn1, if_neg (by omega)]
    have K := gx_copy23 C I hTA he hR hn (by rw [hn1, if_neg (by omega)]; omega) k
    rw [← e] at K
    exact K
  · rw [hn1, if_pos h, hpR, nI_add]
  · exact gx_copy23 C I hTA he hR hn (by rw [hn1, if_pos h]; omega) k
theorem gx_evac22 {post : Int32 → SX → Prop} (C : gx_C ids ag nr nd rf A P el R tb te na) (I : gx_I ids ag nr nd rf da A P el R tb na c0 D E B pg cur me fw fr sc cp pP) (hM : gx_Md ids ag A na P el TA pF pR) {y : Nat} (he : el y) (hR : R y)
    (k : ∀ r E' B' me' fw' fr' cp' pP', gx_I ids ag nr nd rf da A P el R tb na c0 D E' B' pg cur me' fw' fr' sc cp' pP' → (∀ x, gx_inC D E x → gx_inC D E' x ∧ B' x = B x) → (∀ s, ∃ t, E' s = E s ++ t) →
      (el y → gx_inC D E' y ∧ r = nI (B' y)) → (¬ el y → r = nI (A y)) → post r (NL, TL, TA, RT, TS, rc, pF, pR, pP', me', ba, ot, tp, ob, rt, rs, rp, fw', fr', sc, cp', ss)) : wX_evacuate_22 post (nI (A y)) NL TL TA RT TS rc pF pR pP me ba ot tp ob rt rs rp fw fr sc cp ss := by
  have hy : y ∈ ids := C.2.2.2.2.2.2.2.2.1 y he
  have hb := C.2.1 y hy
  have hw2 := gh_w2 (nr := nr) (nd := nd) (x := y)
  unfold wX_evacuate_22
  refine ⟨pk_in (A y) 392 (by omega), ?_⟩
  rw [nI_clamp (n := A y) (by omega)]
  by_cases c : gx_inC D E y
  · have e := (I.2.1.2 y hy).1 c
    have h8 := gx_B8 C I c
    rw [e]
    exact br_f (nI_ne0 (by omega) (by omega)) ⟨pk_in (A y) 392 (by omega), k _ E B me fw fr cp pP I (fun x hx => ⟨hx, rfl⟩) (fun s => ⟨[], by rw [List.append_nil]⟩) (fun _ => ⟨c, rfl⟩) (fun d => absurd he d)⟩
  · have e := (I.2.1.2 y hy).2 c
    rw [e]
    refine br_t rfl (gx_copyObject C I hM he hR c (fun E' B' me' fw' fr' cp' pP' I' h1 h2 h3 => ⟨pk_in (A y) 392 (by omega), ?_⟩))
    exact k _ E' B' me' fw' fr' cp' pP' I' h1 h3 (fun _ => ⟨h2, (I'.2.1.2 y hy).1 h2⟩) (fun d => absurd he d)
theorem gx_evacuate {post : Int32 → SX → Prop} (C : gx_C ids ag nr nd rf A P el R tb te na) (I : gx_I ids ag nr nd rf da A P el R tb na c0 D E B pg cur me fw fr sc cp pP) (hM : gx_Md ids ag A na P el TA pF pR) {y : Nat} (hy : y = 0 ∨ y ∈ ids) (hR : el y → R y)
    (k : ∀ r E' B' me' fw' fr' cp' pP', gx_I ids ag nr nd rf da A P el R tb na c0 D E' B' pg cur me' fw' fr' sc cp' pP' → (∀ x, gx_inC D E x → gx_inC D E' x ∧ B' x = B x) → (∀ s, ∃ t, E' s = E s ++ t) →
      (el y → gx_inC D E' y ∧ r = nI (B' y)) → (¬ el y → r = nI (A y)) → post r (NL, TL, TA, RT, TS, rc, pF, pR, pP', me', ba, ot, tp, ob, rt, rs, rp, fw', fr', sc, cp', ss)) : wpX_evacuate post (NL, TL, TA, RT, TS, rc, pF, pR, pP, me, ba, ot, tp, ob, rt, rs, rp, fw, fr, sc, cp, ss) (nI (A y)) := by
  have stay : ¬ el y → post (nI (A y)) (NL, TL, TA, RT, TS, rc, pF, pR, pP, me, ba, ot, tp, ob, rt, rs, rp, fw, fr, sc, cp, ss) := fun c => k _ E B me fw fr cp pP I (fun x hx => ⟨hx, rfl⟩) (fun s => ⟨[], by rw [List.append_nil]⟩) (fun d => absurd d c) (fun _ => rfl)
  unfold wpX_evacuate
  rcases hy with z | hy
  · subst z
    have h0 : ¬ el 0 := fun c => by have := C.2.1 0 (C.2.2.2.2.2.2.2.2.1 0 c); omega
    have s0 := stay h0
    have e0 : nI (A 0) = 0 := by rw [C.1]; rfl
    rw [e0] at s0 ⊢
    exact br_t rfl s0
  · have hb := C.2.1 y hy
    have hw2 := gh_w2 (nr := nr) (nd := nd) (x := y)
    refine br_f (nI_ne0 (by omega) (by omega)) ?_
    rcases hM.2.1 with ⟨f0, f1⟩ | ⟨f0, f1⟩
    · refine br_t f0 (pk_lt (A y) 200 (fun h => gx_evac22 C I hM ((f1 y hy).mpr h) (hR ((f1 y hy).mpr h)) k) (fun h => stay (fun c => ?_)))
      have := (f1 y hy).mp c
      omega
    · exact br_f f0 (gx_evac22 C I hM (f1 y hy) (hR (f1 y hy)) k)
theorem gx_pend2 {post : Int32 → Prop} (C : gx_C ids ag nr nd rf A P el R tb te na) (I : gx_I ids ag nr nd rf da A P el R tb na c0 D E B pg cur me fw fr sc cp pP)
    (k1 : ∀ sp, sp < 3 → E sp ≠ [] → post (nI sp)) (k0 : (∀ sp, sp < 3 → E sp = []) → post (-1)) :
    ∀ (n sp : Nat), 3 - sp < n → sp ≤ 3 → (∀ s, s < sp → E s = []) → wX_pendingSpace_2 post NL TL TA RT TS rc pF pR pP me ba ot tp ob rt rs rp fw fr sc cp ss n (nI sp) := by
  intro n
  induction n with
  | zero => intro sp h; omega
  | succ n ih =>
    intro sp hn hs ha
    refine pk_le 3 sp (fun h => k0 (fun s h2 => ha s (by omega))) (fun h => ⟨pk_in sp 3 h, pk_in sp 3 h, ?_⟩)
    obtain ⟨i1, i2, i3, i4, i5, i6⟩ := I.1 sp h
    have hcap := C.2.2.2.2.2.2.2.1 sp _ h i1 (fun y hy => ⟨(i2 y hy).1, (i2 y hy).2.2⟩)
    have hte := C.2.2.2.2.2.2.1 sp h
    rw [nI_clamp (n := sp) (by omega), i4, i5]
    rw [gh_S_app] at hcap ⊢
    refine pk_le (tb sp + (gh_S (gh_w nr nd) (D sp) + gh_S (gh_w nr nd) (E sp))) (tb sp + gh_S (gh_w nr nd) (D sp)) (fun h2 => nm_r (nI_1 sp) (ih (sp + 1) (by omega) (by omega) (fun s h3 => ?_))) (fun h2 => k1 sp h (fun e => ?_))
    · by_cases z : s = sp
      · subst z
        have h4 := gh_S2 (f := gh_w nr nd) (l := E s) (fun x => gh_w2)
        exact List.eq_nil_of_length_eq_zero (by omega)
      · exact ha s (by omega)
    · rw [e, gh_S_nil] at h2
      omega
theorem gx_pendingSpace {post : Int32 → Prop} (C : gx_C ids ag nr nd rf A P el R tb te na) (I : gx_I ids ag nr nd rf da A P el R tb na c0 D E B pg cur me fw fr sc cp pP)
    (k1 : ∀ sp, sp < 3 → E sp ≠ [] → post (nI sp)) (k0 : (∀ sp, sp < 3 → E sp = []) → post (-1)) : wpX_pendingSpace post (NL, TL, TA, RT, TS, rc, pF, pR, pP, me, ba, ot, tp, ob, rt, rs, rp, fw, fr, sc, cp, ss) := by
  unfold wpX_pendingSpace
  exact ⟨4, gx_pend2 C I k1 k0 4 0 (by omega) (by omega) (fun s h => by omega)⟩
theorem gx_scan16 {post : SX → Prop} (C : gx_C ids ag nr nd rf A P el R tb te na) (hM : gx_Md ids ag A na P el TA pF pR) {E0 : Nat → List Nat} {B0 : Nat → Nat} {x sp : Nat} (hs : sp < 3)
    (k : ∀ E' B' pg' me' fw' fr' sc' cp' pP', gx_I ids ag nr nd rf da A P el R tb na c0 (gh_u D sp (D sp ++ [x])) E' B' pg' 0 me' fw' fr' sc' cp' pP' →
      (∀ z, gx_inC D E0 z → gx_inC (gh_u D sp (D sp ++ [x])) E' z ∧ B' z = B0 z) → post (NL, TL, TA, RT, TS, rc, pF, pR, pP', me', ba, ot, tp, ob, rt, rs, rp, fw', fr', sc', cp', ss)) :
    ∀ (n i : Nat) (E : Nat → List Nat) (B pg : Nat → Nat) (me fw fr cp : Nat → Int32) (pP : Int32), nr x - i < n → i ≤ nr x → gx_I ids ag nr nd rf da A P el R tb na c0 D E B pg x me fw fr sc cp pP → gx_inC D E x → (∀ s, s < 3 → x ∉ D s) →
      pg x = i → (∃ rest, E sp = x :: rest) → (∀ z, gx_inC D E0 z → gx_inC D E z ∧ B z = B0 z) → wX_scanObject_16 post (nI sp) (nI (B x)) (nI (nr x)) n (nI i) NL TL TA RT TS rc pF pR pP me ba ot tp ob rt rs rp fw fr sc cp ss := by
  intro n
  induction n with
  | zero => intro i E B pg me fw fr cp pP h; omega
  | succ n ih =>
    intro i E B pg me fw fr cp pP hn hi I hx hD hp hE hext
    have hxi : x ∈ ids := C.2.2.2.2.2.2.2.2.1 x (gx_inC_el I hx).1
    have hRx := (gx_inC_el I hx).2
    have hb := C.2.1 x hxi
    have hP : P ≤ 3 := C.2.2.2.2.2.2.2.2.2.2.2
    have h8 := gx_B8 C I hx
    have hw : gh_w nr nd x = 2 + nr x + nd x := rfl
    have hnew := I.2.2.2.1 x hx
    have hd : gx_dsc me (B x) (nr x) (nd x) (na x) := ⟨by omega, by omega, by omega, by omega, hnew.2.1⟩
    obtain ⟨rest, hE'⟩ := hE
    refine pk_le (nr x) i (fun h => gx_weightAt hd ⟨pk_in sp 3 hs, ?_⟩) (fun h => nm_r (e' := nI (B x + 2 + i)) ?_ ⟨pk_in (B x + 2 + i) 392 (by omega), ?_⟩)
    · rw [nI_clamp (n := sp) (by omega), nI_add]
      have hpx : pg x = nr x := by omega
      obtain ⟨i1, i2, i3, i4, i5, i6⟩ := I.1 sp hs
      rw [gh_lay_app, hE'] at i3
      have hBx : B x = tb sp + gh_S (gh_w nr nd) (D sp) := i3.2.1
      have hdone := gx_I_done I hs hE' hpx (v := nI (B x + (2 + nr x + nd x))) (by rw [hBx, hw])
      exact nm_e (k _ _ _ _ _ _ _ _ _ hdone.1 (fun z hz => ⟨(hdone.2 z).mpr (hext z hz).1, (hext z hz).2⟩))
    · rw [← nI_add, ← nI_add]; rfl
    · rw [nI_clamp (n := B x + 2 + i) (by omega)]
      have hfield := (hnew.2.2.1 i h).2 (by omega)
      rw [hfield]
      refine gx_evacuate C I hM (C.2.2.2.1 x i hxi h) (fun e => C.2.2.2.2.2.2.2.2.2.1 x i hRx h e) (fun r E' B' me' fw' fr' cp' pP' I' h1 h3 h4 h5 => ⟨pk_in (B x + 2 + i) 392 (by omega), nm_e (nm_r (nI_1 i) ?_)⟩)
      have hx' := h1 x hx
      have I2 := gx_I_scan C I' (r := r) hx'.1 hD h hp h4 h5
      rw [hx'.2] at I2
      obtain ⟨t, ht⟩ := h3 sp
      have K := ih (i + 1) E' B' _ _ _ _ _ _ (by omega) (by omega) I2 hx'.1 hD gh_us ⟨rest ++ t, by rw [ht, hE']; rfl⟩ (fun z hz => ⟨(h1 z (hext z hz).1).1, (h1 z (hext z hz).1).2.trans (hext z hz).2⟩)
      rw [hx'.2] at K
      exact K
theorem gx_scanObject {post : SX → Prop} (C : gx_C ids ag nr nd rf A P el R tb te na) (hM : gx_Md ids ag A na P el TA pF pR) {sp : Nat} (hs : sp < 3) (I : gx_I ids ag nr nd rf da A P el R tb na c0 D E B pg 0 me fw fr sc cp pP) (hE : E sp ≠ [])
    (k : ∀ x E' B' pg' me' fw' fr' sc' cp' pP', gx_I ids ag nr nd rf da A P el R tb na c0 (gh_u D sp (D sp ++ [x])) E' B' pg' 0 me' fw' fr' sc' cp' pP' →
      (∀ z, gx_inC D E z → gx_inC (gh_u D sp (D sp ++ [x])) E' z ∧ B' z = B z) → post (NL, TL, TA, RT, TS, rc, pF, pR, pP', me', ba, ot, tp, ob, rt, rs, rp, fw', fr', sc', cp', ss)) : wpX_scanObject post (NL, TL, TA, RT, TS, rc, pF, pR, pP, me, ba, ot, tp, ob, rt, rs, rp, fw, fr, sc, cp, ss) (nI sp) := by
  obtain ⟨x, rest, hE'⟩ : ∃ x rest, E sp = x :: rest := by
    cases h : E sp with
    | nil => exact absurd h hE
    | cons x rest => exact ⟨x, rest, rfl⟩
  obtain ⟨I', hx, hD⟩ := gx_I_start I hs hE'
  obtain ⟨i1, i2, i3, i4, i5, i6⟩ := I.1 sp hs
  rw [gh_lay_app, hE'] at i3
  have hBx : B x = tb sp + gh_S (gh_w nr nd) (D sp) := i3.2.1
  have hxi : x ∈ ids := C.2.2.2.2.2.2.2.2.1 x (gx_inC_el I hx).1
  have hb := C.2.1 x hxi
  have hP : P ≤ 3 := C.2.2.2.2.2.2.2.2.2.2.2
  have h8 := gx_B8 C I hx
  have hw : gh_w nr nd x = 2 + nr x + nd x := rfl
  have hnew := I.2.2.2.1 x hx
  have hd : gx_dsc me (B x) (nr x) (nd x) (na x) := ⟨by omega, by omega, by omega, by omega, hnew.2.1⟩
  unfold wpX_scanObject
  refine ⟨pk_in sp 3 hs, ?_⟩
  rw [nI_clamp (n := sp) (by omega)]
  refine nm_r (e' := nI (B x)) (by rw [i4, hBx]) (gx_refsAt hd ⟨nr x + 1, ?_⟩)
  exact gx_scan16 C hM hs (fun E' B' pg' me' fw' fr' sc' cp' pP' I2 h2 => k x E' B' pg' me' fw' fr' sc' cp' pP' I2 h2) (nr x + 1) 0 E B pg me fw fr cp pP (by omega) (by omega) I' hx hD (I.2.2.2.2.1.2.1 x (by omega) hD (by omega)) ⟨rest, hE'⟩ (fun z hz => ⟨hz, rfl⟩)
theorem gx_Dlen (C : gx_C ids ag nr nd rf A P el R tb te na) (I : gx_I ids ag nr nd rf da A P el R tb na c0 D E B pg cur me fw fr sc cp pP) : (D 0).length + (D 1).length + (D 2).length ≤ ids.length := by
  have hl : (D 0 ++ D 1 ++ D 2).length ≤ ids.length := by
    apply gh_len_le
    · have n0 := (List.nodup_append.mp (I.1 0 (by omega)).1).1
      have n1 := (List.nodup_append.mp (I.1 1 (by omega)).1).1
      have n2 := (List.nodup_append.mp (I.1 2 (by omega)).1).1
      have sp : ∀ s, s < 3 → ∀ x, x ∈ D s → gh_sp P (na x) = s := fun s h x hx => gx_inC_sp I h (List.mem_append.mpr (Or.inl hx))
      rw [List.nodup_append, List.nodup_append]
      refine ⟨⟨n0, n1, ?_⟩, n2, ?_⟩
      · intro a ha b hb e
        subst e
        have h1 := sp 0 (by omega) a ha
        have h2 := sp 1 (by omega) a hb
        omega
      · intro a ha b hb e
        subst e
        have h2 := sp 2 (by omega) a hb
        rcases List.mem_append.mp ha with h | h
        · have h1 := sp 0 (by omega) a h
          omega
        · have h1 := sp 1 (by omega) a h
          omega
    · intro x hx
      have hin : ∀ s, s < 3 → x ∈ D s → x ∈ ids := fun s h hx => C.2.2.2.2.2.2.2.2.1 x (gx_inC_el I ⟨s, h, List.mem_append.mpr (Or.inl hx)⟩).1
      rcases List.mem_append.mp hx with h | h
      · rcases List.mem_append.mp h with h | h
        · exact hin 0 (by omega) h
        · exact hin 1 (by omega) h
      · exact hin 2 (by omega) h
  simp only [List.length_append] at hl
  omega
theorem gx_drain2 {post : SX → Prop} (C : gx_C ids ag nr nd rf A P el R tb te na) (hM : gx_Md ids ag A na P el TA pF pR) (h80 : ids.length ≤ 80) {D0 E0 : Nat → List Nat}
    (k : ∀ D' E' B' pg' me' fw' fr' sc' cp' pP', gx_I ids ag nr nd rf da A P el R tb na c0 D' E' B' pg' 0 me' fw' fr' sc' cp' pP' → (∀ s, s < 3 → E' s = []) →
      (∀ z, gx_inC D0 E0 z → gx_inC D' E' z) → post (NL, TL, TA, RT, TS, rc, pF, pR, pP', me', ba, ot, tp, ob, rt, rs, rp, fw', fr', sc', cp', ss)) :
    ∀ (n i : Nat) (D E : Nat → List Nat) (B pg : Nat → Nat) (me fw fr sc cp : Nat → Int32) (pP : Int32), 96 - i < n → i = (D 0).length + (D 1).length + (D 2).length → gx_I ids ag nr nd rf da A P el R tb na c0 D E B pg 0 me fw fr sc cp pP →
      (∀ z, gx_inC D0 E0 z → gx_inC D E z) → wX_drain_2 post n (nI i) NL TL TA RT TS rc pF pR pP me ba ot tp ob rt rs rp fw fr sc cp ss := by
  intro n
  induction n with
  | zero => intro i D E B pg me fw fr sc cp pP h; omega
  | succ n ih =>
    intro i D E B pg me fw fr sc cp pP hn hi I hext
    have hl := gx_Dlen C I
    refine br_f (nI_ge (b := 96) (by omega) (by omega)) (gx_pendingSpace C I (fun sp hs hE => br_t (nI_pos' (by omega)) (gx_scanObject C hM hs I hE (fun x E' B' pg' me' fw' fr' sc' cp' pP' I' h1 => nm_r (nI_1 i) (ih (i + 1) _ E' B' pg' me' fw' fr' sc' cp' pP' (by omega) ?_ I' (fun z hz => (h1 z (hext z hz)).1))))) (fun hE => br_f (by decide) (k D E B pg me fw fr sc cp pP I hE hext)))
    have hx : (gh_u D sp (D sp ++ [x]) sp).length = (D sp).length + 1 := by rw [gh_us, List.length_append]; rfl
    have h0 : sp ≠ 0 → gh_u D sp (D sp ++ [x]) 0 = D 0 := fun z => gh_un (fun e => z e.symm)
    have h1' : sp ≠ 1 → gh_u D sp (D sp ++ [x]) 1 = D 1 := fun z => gh_un (fun e => z e.symm)
    have h2 : sp ≠ 2 → gh_u D sp (D sp ++ [x]) 2 = D 2 := fun z => gh_un (fun e => z e.symm)
    have hsp : sp = 0 ∨ sp = 1 ∨ sp = 2 := by omega
    rcases hsp with e | e | e
    · subst e
      rw [hx, h1' (by omega), h2 (by omega)]; omega
    · subst e
      rw [hx, h0 (by omega), h2 (by omega)]; omega
    · subst e
      rw [hx, h0 (by omega), h1' (by omega)]; omega
theorem gx_drain {post : SX → Prop} (C : gx_C ids ag nr nd rf A P el R tb te na) (hM : gx_Md ids ag A na P el TA pF pR) (h80 : ids.length ≤ 80) (I : gx_I ids ag nr nd rf da A P el R tb na c0 (fun _ => []) E B pg 0 me fw fr sc cp pP)
    (k : ∀ D' E' B' pg' me' fw' fr' sc' cp' pP', gx_I ids ag nr nd rf da A P el R tb na c0 D' E' B' pg' 0 me' fw' fr' sc' cp' pP' → (∀ s, s < 3 → E' s = []) →
      (∀ z, gx_inC (fun _ => []) E z → gx_inC D' E' z) → post (NL, TL, TA, RT, TS, rc, pF, pR, pP', me', ba, ot, tp, ob, rt, rs, rp, fw', fr', sc', cp', ss)) : wpX_drain post (NL, TL, TA, RT, TS, rc, pF, pR, pP, me, ba, ot, tp, ob, rt, rs, rp, fw, fr, sc, cp, ss) := by
  unfold wpX_drain
  exact ⟨97, gx_drain2 C hM h80 k 97 0 (fun _ => []) E B pg me fw fr sc cp pP (by omega) rfl I (fun z hz => hz)⟩
end
end
section
/-! the component's copying pass as a whole -/
section
variable {NL TL TA RT TS rc pF pR pP : Int32} {me ba ot tp ob rt rs rp fw fr sc cp ss : Nat → Int32} {ids : List Nat} {ag nr nd : Nat → Nat} {rf : Nat → Nat → Nat} {da : Nat → Nat → Int32} {ro : Nat → Nat} {A tb te na c0 B pg : Nat → Nat} {P cur : Nat} {el R : Nat → Prop} {D E : Nat → List Nat}
theorem gx_begin39 {post : SX → Prop} {x1 : Int32}
    (k : ∀ fr' sc' cp', (∀ s, s < 3 → fr' s = (if x1 = 0 ∧ s = 2 then tp 2 else ot s) ∧ sc' s = (if x1 = 0 ∧ s = 2 then tp 2 else ot s) ∧ cp' s = (if x1 = 0 ∧ s = 2 then ob 2 else 0)) → post (NL, TL, TA, RT, TS, rc, pF, pR, pP, me, ba, ot, tp, ob, rt, rs, rp, fw, fr', sc', cp', ss)) :
    ∀ (n sp : Nat) (fr sc cp : Nat → Int32), 3 - sp < n → sp ≤ 3 → (∀ s, s < sp → fr s = ot s ∧ sc s = ot s ∧ cp s = 0) → wX_beginPass_39 post x1 NL TL TA RT TS rc pF pR pP n (nI sp) me ba ot tp ob rt rs rp fw fr sc cp ss := by
  intro n
  induction n with
  | zero => intro sp fr sc cp h; omega
  | succ n ih =>
    intro sp fr sc cp hn hs ha
    refine pk_le 3 sp (fun h => br_c (fun z => nm_e (nm_e (nm_e (k _ _ _ (fun s hs3 => ?_))))) (fun z => k _ _ _ (fun s hs3 => ?_))) (fun h => ⟨pk_in sp 3 h, pk_in sp 3 h, ?_⟩)
    · by_cases e : s = 2
      · subst e
        rw [pk_us, pk_us, pk_us, if_pos ⟨z, rfl⟩, if_pos ⟨z, rfl⟩]
        exact ⟨rfl, rfl, rfl⟩
      · rw [pk_un e, pk_un e, pk_un e, if_neg (fun c => e c.2), if_neg (fun c => e c.2)]
        exact ha s (by omega)
    · rw [if_neg (fun c => z c.1), if_neg (fun c => z c.1)]
      exact ha s (by omega)
    · rw [nI_clamp (n := sp) (by omega)]
      refine nm_e ⟨pk_in sp 3 h, pk_in sp 3 h, nm_e ⟨pk_in sp 3 h, nm_e (nm_r (nI_1 sp) (ih (sp + 1) _ _ _ (by omega) (by omega) (fun s h2 => ?_)))⟩⟩
      by_cases e : s = sp
      · subst e
        rw [pk_us, pk_us, pk_us]
        exact ⟨rfl, rfl, rfl⟩
      · rw [pk_un e, pk_un e, pk_un e]
        exact ha s (by omega)
theorem gx_begin17 {post : SX → Prop} {x1 : Int32}
    (k : ∀ fw' fr' sc' cp', (∀ a, a < 392 → fw' a = 0) → (∀ s, s < 3 → fr' s = (if x1 = 0 ∧ s = 2 then tp 2 else ot s) ∧ sc' s = (if x1 = 0 ∧ s = 2 then tp 2 else ot s) ∧ cp' s = (if x1 = 0 ∧ s = 2 then ob 2 else 0)) →
      post (NL, TL, TA, RT, TS, rc, pF, pR, pP, me, ba, ot, tp, ob, rt, rs, rp, fw', fr', sc', cp', ss)) :
    ∀ (n i : Nat) (fw : Nat → Int32), 392 - i < n → i ≤ 392 → (∀ a, a < i → fw a = 0) → wX_beginPass_17 post x1 NL TL TA RT TS rc pF pR pP n (nI i) me ba ot tp ob rt rs rp fw fr sc cp ss := by
  intro n
  induction n with
  | zero => intro i fw h; omega
  | succ n ih =>
    intro i fw hn hi ha
    refine pk_le 392 i (fun h => ⟨4, gx_begin39 (fun fr' sc' cp' h2 => k fw fr' sc' cp' (fun a h3 => ha a (by omega)) h2) 4 0 fr sc cp (by omega) (by omega) (fun s h2 => by omega)⟩) (fun h => ⟨pk_in i 392 h, ?_⟩)
    rw [nI_clamp (n := i) (by omega)]
    refine nm_e (nm_r (nI_1 i) (ih (i + 1) _ (by omega) (by omega) (fun a h2 => ?_)))
    by_cases e : a = i
    · subst e; exact pk_us
    · rw [pk_un e]; exact ha a (by omega)
theorem gx_beginPass {post : SX → Prop} {p0 p1 : Int32} (h01 : p0 = 0 ∨ p0 = 1)
    (k : ∀ fw' fr' sc' cp', (∀ a, a < 392 → fw' a = 0) → (∀ s, s < 3 → fr' s = (if p0 = 0 ∧ s = 2 then tp 2 else ot s) ∧ sc' s = (if p0 = 0 ∧ s = 2 then tp 2 else ot s) ∧ cp' s = (if p0 = 0 ∧ s = 2 then ob 2 else 0)) →
      post (NL, TL, TA, RT, TS, rc, p0, p1, 0, me, ba, ot, tp, ob, rt, rs, rp, fw', fr', sc', cp', ss)) : wpX_beginPass post (NL, TL, TA, RT, TS, rc, pF, pR, pP, me, ba, ot, tp, ob, rt, rs, rp, fw, fr, sc, cp, ss) p0 p1 := by
  unfold wpX_beginPass
  refine ⟨?_, ?_, 393, gx_begin17 k 393 0 fw (by omega) (by omega) (fun a h => by omega)⟩
  · rcases h01 with e | e
    · subst e; rfl
    · subst e; rfl
  · rcases h01 with e | e
    · subst e; rfl
    · subst e; rfl
theorem gx_trace39 {post : SX → Prop} (C : gx_C ids ag nr nd rf A P el R tb te na) (hM : gx_Md ids ag A na P el TA pF pR) {c : Nat} {sx sj : Nat → Nat} (hc : c ≤ 96)
    (hS : ∀ i, i < c → sx i ∈ ids ∧ sj i < nr (sx i) ∧ rs i = nI (A (sx i) + 2 + sj i) ∧ (el (rf (sx i) (sj i)) → R (rf (sx i) (sj i)))) {E0 : Nat → List Nat}
    (k : ∀ E' B' me' fw' fr' cp' pP', gx_I ids ag nr nd rf da A P el R tb na c0 D E' B' pg cur me' fw' fr' sc cp' pP' → (∀ z, gx_inC D E0 z → gx_inC D E' z) → (∀ i, i < c → el (rf (sx i) (sj i)) → gx_inC D E' (rf (sx i) (sj i))) →
      wX_tracePass_73 post NL TL TA RT TS (nI c) pF pR pP' me' ba ot tp ob rt rs rp fw' fr' sc cp' ss) :
    ∀ (n i : Nat) (E : Nat → List Nat) (B : Nat → Nat) (me fw fr cp : Nat → Int32) (pP : Int32), c - i < n → i ≤ c → gx_I ids ag nr nd rf da A P el R tb na c0 D E B pg cur me fw fr sc cp pP → (∀ z, gx_inC D E0 z → gx_inC D E z) →
      (∀ j, j < i → el (rf (sx j) (sj j)) → gx_inC D E (rf (sx j) (sj j))) → wX_tracePass_39 post n (nI i) NL TL TA RT TS (nI c) pF pR pP me ba ot tp ob rt rs rp fw fr sc cp ss := by
  intro n
  induction n with
  | zero => intro i E B me fw fr cp pP h; omega
  | succ n ih =>
    intro i E B me fw fr cp pP hn hi I hext ha
    refine pk_le c i (fun h => k E B me fw fr cp pP I hext (fun j hj => ha j (by omega))) (fun h => ⟨pk_in i 96 (by omega), ?_⟩)
    obtain ⟨s1, s2, s3, s4⟩ := hS i h
    have hb := C.2.1 _ s1
    have hw : gh_w nr nd (sx i) = 2 + nr (sx i) + nd (sx i) := rfl
    rw [nI_clamp (n := i) (by omega)]
    refine nm_r s3 ⟨pk_in (A (sx i) + 2 + sj i) 392 (by omega), ?_⟩
    rw [nI_clamp (n := A (sx i) + 2 + sj i) (by omega), (I.2.2.1 _ s1).2.2.1 _ s2]
    refine gx_evacuate C I hM (C.2.2.2.1 _ _ s1 s2) s4 (fun r E' B' me' fw' fr' cp' pP' I' h1 h3 h4 h5 => nm_r (nI_1 i) (ih (i + 1) E' B' me' fw' fr' cp' pP' (by omega) (by omega) I' (fun z hz => (h1 z (hext z hz)).1) ?_))
    intro j hj e
    by_cases z : j = i
    · subst z; exact (h4 e).1
    · exact (h1 _ (ha j (by omega) e)).1
theorem gx_trace8 {post : SX → Prop} {x1 : Int32} (C : gx_C ids ag nr nd rf A P el R tb te na) (hM : gx_Md ids ag A na P el TA pF pR) {K : Nat} (hK : K ≤ 8)
    (hrt : ∀ r, r < 8 → rt r = nI (A (ro r))) (hro : ∀ r, ro r = 0 ∨ ro r ∈ ids) (hR : ∀ r, el (ro r) → R (ro r))
    (k : ∀ E' B' me' fw' fr' cp' pP', gx_I ids ag nr nd rf da A P el R tb na c0 D E' B' pg cur me' fw' fr' sc cp' pP' → (∀ r, r < K → el (ro r) → gx_inC D E' (ro r)) →
      (x1 = 0 → ∃ n39 : Nat, wX_tracePass_39 post n39 0 NL TL TA (nI K) TS rc pF pR pP' me' ba ot tp ob rt rs rp fw' fr' sc cp' ss) ∧ (¬ x1 = 0 → wX_tracePass_73 post NL TL TA (nI K) TS rc pF pR pP' me' ba ot tp ob rt rs rp fw' fr' sc cp' ss)) :
    ∀ (n i : Nat) (E : Nat → List Nat) (B : Nat → Nat) (me fw fr cp : Nat → Int32) (pP : Int32), K - i < n → i ≤ K → gx_I ids ag nr nd rf da A P el R tb na c0 D E B pg cur me fw fr sc cp pP →
      (∀ j, j < i → el (ro j) → gx_inC D E (ro j)) → wX_tracePass_8 post x1 n (nI i) NL TL TA (nI K) TS rc pF pR pP me ba ot tp ob rt rs rp fw fr sc cp ss := by
  intro n
  induction n with
  | zero => intro i E B me fw fr cp pP h; omega
  | succ n ih =>
    intro i E B me fw fr cp pP hn hi I ha
    refine pk_le K i (fun h => k E B me fw fr cp pP I (fun j hj => ha j (by omega))) (fun h => ⟨pk_in i 8 (by omega), ?_⟩)
    rw [nI_clamp (n := i) (by omega), hrt i (by omega)]
    refine gx_evacuate C I hM (hro i) (hR i) (fun r E' B' me' fw' fr' cp' pP' I' h1 h3 h4 h5 => nm_r (nI_1 i) (ih (i + 1) E' B' me' fw' fr' cp' pP' (by omega) (by omega) I' ?_))
    intro j hj e
    by_cases z : j = i
    · subst z; exact (h4 e).1
    · exact (h1 _ (ha j (by omega) e)).1
theorem gx_tracePass {post : SX → Prop} {p0 p1 : Int32} {K c : Nat} {sx sj : Nat → Nat} (C : gx_C ids ag nr nd rf A P el R tb te na) (hM : gx_Md ids ag A na P el TA p0 p1) (h80 : ids.length ≤ 80) (h01 : p0 = 0 ∨ p0 = 1)
    (hobj : ∀ x, x ∈ ids → gx_obj ag nr nd rf da me A x) (htb : ∀ s, s < 3 → (if p0 = 0 ∧ s = 2 then tp 2 else ot s) = nI (tb s)) (hc0 : ∀ s, s < 3 → (if p0 = 0 ∧ s = 2 then ob 2 else 0) = nI (c0 s))
    (hK : K ≤ 8) (hrt : ∀ r, r < 8 → rt r = nI (A (ro r))) (hro : ∀ r, ro r = 0 ∨ ro r ∈ ids) (hR : ∀ r, el (ro r) → R (ro r)) (hc : c ≤ 96)
    (hS : p0 = 0 → ∀ i, i < c → sx i ∈ ids ∧ sj i < nr (sx i) ∧ rs i = nI (A (sx i) + 2 + sj i) ∧ (el (rf (sx i) (sj i)) → R (rf (sx i) (sj i))))
    (k : ∀ D' E' B' pg' me' fw' fr' sc' cp' pP', gx_I ids ag nr nd rf da A P el R tb na c0 D' E' B' pg' 0 me' fw' fr' sc' cp' pP' → (∀ s, s < 3 → E' s = []) → (∀ r, r < K → el (ro r) → gx_inC D' E' (ro r)) →
      (p0 = 0 → ∀ i, i < c → el (rf (sx i) (sj i)) → gx_inC D' E' (rf (sx i) (sj i))) → post (NL, TL, TA, nI K, TS, nI c, p0, p1, pP', me', ba, ot, tp, ob, rt, rs, rp, fw', fr', sc', cp', ss)) :
    wpX_tracePass post (NL, TL, TA, nI K, TS, nI c, pF, pR, pP, me, ba, ot, tp, ob, rt, rs, rp, fw, fr, sc, cp, ss) p0 p1 := by
  unfold wpX_tracePass
  refine gx_beginPass h01 (fun fw' fr' sc' cp' hf hs => ?_)
  have I0 : gx_I ids ag nr nd rf da A P el R tb na c0 (fun _ => []) (fun _ => []) (fun _ => 0) (fun _ => 0) 0 me fw' fr' sc' cp' 0 := by
    have hno : ∀ x, ¬ gx_inC (fun _ => []) (fun _ => []) x := by
      rintro x ⟨s, _, h⟩
      cases h
    refine ⟨?_, ⟨hf 0 (by omega), fun x hx => ⟨fun c => absurd c (hno x), fun _ => hf _ ?_⟩⟩, hobj, fun x hx => absurd hx (hno x), ⟨?_, fun x _ _ _ => rfl, Or.inl rfl⟩, rfl⟩
    · intro s h
      obtain ⟨a1, a2, a3⟩ := hs s h
      refine ⟨List.nodup_nil, (fun x hx => nomatch hx), trivial, ?_, ?_, ?_⟩
      · rw [a2, htb s h]; rfl
      · rw [a1, htb s h]; rfl
      · rw [a3, hc0 s h]; rfl
    · have := C.2.1 x hx
      have hw2 := gh_w2 (nr := nr) (nd := nd) (x := x)
      omega
    · intro s x _ hx
      cases hx
  refine ⟨K + 1, gx_trace8 C hM hK hrt hro hR (fun E' B' me' fw2 fr2 cp2 pP2 I2 hr2 => br_c (fun z => ⟨c + 1, ?_⟩) (fun z => ?_)) (K + 1) 0 _ _ me fw' fr' cp' 0 (by omega) (by omega) I0 (fun j hj => by omega)⟩
  · refine gx_trace39 C hM hc (hS z) (E0 := E') (fun E3 B3 me3 fw3 fr3 cp3 pP3 I3 h3 h4 => ?_) (c + 1) 0 E' B' me' fw2 fr2 cp2 pP2 (by omega) (by omega) I2 (fun x hx => hx) (fun j hj => by omega)
    unfold wX_tracePass_73
    refine gx_drain C hM h80 I3 (fun D' E'' B'' pg' me'' fw'' fr'' sc'' cp'' pP'' I'' h5 h6 => ?_)
    exact k D' E'' B'' pg' me'' fw'' fr'' sc'' cp'' pP'' I'' h5 (fun r hr e => h6 _ (h3 _ (hr2 r hr e))) (fun _ i hi e => h6 _ (h4 i hi e))
  · unfold wX_tracePass_73
    refine gx_drain C hM h80 I2 (fun D' E'' B'' pg' me'' fw'' fr'' sc'' cp'' pP'' I'' h5 h6 => ?_)
    exact k D' E'' B'' pg' me'' fw'' fr'' sc'' cp'' pP'' I'' h5 (fun r hr e => h6 _ (hr2 r hr e)) (fun c => absurd c z)
end
end
section
/-! the component's heap against the abstract one; the contexts of its three passes -/
def gx_half (bs os : Nat → Nat) : Prop :=
  ((bs 0 = 8 ∧ os 0 = 40) ∨ (bs 0 = 40 ∧ os 0 = 8)) ∧ ((bs 1 = 72 ∧ os 1 = 136) ∨ (bs 1 = 136 ∧ os 1 = 72)) ∧ ((bs 2 = 200 ∧ os 2 = 296) ∨ (bs 2 = 296 ∧ os 2 = 200))
def gx_cross (L2 : List Nat) (A nr : Nat → Nat) (me : Nat → Int32) (a : Nat) : Prop := ∃ x, x ∈ L2 ∧ ∃ j, j < nr x ∧ a = A x + 2 + j ∧ gx_yI (me a)
def gx_K (P : Nat) (ids : List Nat) (ag nr nd : Nat → Nat) (rf : Nat → Nat → Nat) (da : Nat → Nat → Int32) (ro : Nat → Nat) (L : Nat → List Nat) (A bs os : Nat → Nat) (c : Nat) (me ba ot tp ob rt rs rp : Nat → Int32) : Prop :=
  A 0 = 0 ∧ gx_half bs os ∧
  (∀ sp, sp < 3 → (L sp).Nodup ∧ (∀ x, x ∈ L sp ↔ x ∈ ids ∧ gh_sp P (ag x) = sp) ∧ gh_lay (gh_w nr nd) A (bs sp) (L sp) ∧ ba sp = nI (bs sp) ∧ ot sp = nI (os sp) ∧ tp sp = nI (bs sp + gh_S (gh_w nr nd) (L sp)) ∧ ob sp = nI (L sp).length) ∧
  (∀ x, x ∈ ids → gx_obj ag nr nd rf da me A x) ∧ (∀ r, r < 8 → rt r = nI (A (ro r))) ∧ gx_rem c rs rp (gx_cross (L 2) A nr me)
def gx_R (N T P K : Nat) (ids : List Nat) (ag nr nd : Nat → Nat) (rf : Nat → Nat → Nat) (da : Nat → Nat → Int32) (ro : Nat → Nat) (st : Nat → Int32) (u : SX) : Prop := match u with
  | (NL, TL, TA, RT, TS, rc, pF, pR, pP, me, ba, ot, tp, ob, rt, rs, rp, fw, fr, sc, cp, ss) => (NL = nI N ∧ TL = nI T ∧ TA = nI P ∧ RT = nI K) ∧ ss = st ∧ ∃ L A bs os c, rc = nI c ∧ gx_K P ids ag nr nd rf da ro L A bs os c me ba ot tp ob rt rs rp
def gh_na (P : Nat) (ag : Nat → Nat) (rz : Nat) : Nat → Nat := fun x => if ag x < P then ag x + rz else ag x
theorem gh_na1 {P : Nat} {ag : Nat → Nat} : gh_na P ag 1 = gh_up P ag := rfl
theorem gh_na0 {P : Nat} {ag : Nat → Nat} : gh_na P ag 0 = ag := by
  funext x
  unfold gh_na
  by_cases h : ag x < P
  · rw [if_pos h, Nat.add_zero]
  · rw [if_neg h]
def gh_hs (sp : Nat) : Nat := if sp = 0 then 32 else if sp = 1 then 64 else 96
section
variable {ids : List Nat} {ag nr nd : Nat → Nat} {rf : Nat → Nat → Nat} {da : Nat → Nat → Int32} {ro : Nat → Nat} {N T P K la c : Nat} {L : Nat → List Nat} {A bs os : Nat → Nat} {me ba ot tp ob rt rs rp : Nat → Int32}
theorem gx_Lsum (hN : ids.Nodup) (k : gx_K P ids ag nr nd rf da ro L A bs os c me ba ot tp ob rt rs rp) {sp : Nat} (hs : sp < 3) (f : Nat → Nat) : gh_S f (L sp) = gh_S (fun x => if gh_sp P (ag x) = sp then f x else 0) ids := by
  obtain ⟨h1, h2, _⟩ := k.2.2.1 sp hs
  refine gh_S_eq h1 hN (fun x hx => ?_) (fun x hx hn => ?_)
  · have := (h2 x).mp hx
    rw [if_pos this.2]
    exact ⟨this.1, rfl⟩
  · rw [if_neg]
    intro e
    exact hn ((h2 x).mpr ⟨hx, e⟩)
theorem gx_Ltot (hN : ids.Nodup) (k : gx_K P ids ag nr nd rf da ro L A bs os c me ba ot tp ob rt rs rp) (f : Nat → Nat) : gh_S f (L 0) + gh_S f (L 1) + gh_S f (L 2) = gh_S f ids := by
  rw [gx_Lsum hN k (by omega) f, gx_Lsum hN k (by omega) f, gx_Lsum hN k (by omega) f, ← gh_S_add, ← gh_S_add]
  apply gh_S_congr
  intro x _
  have h3 : gh_sp P (ag x) < 3 := gh_sp3
  have : gh_sp P (ag x) = 0 ∨ gh_sp P (ag x) = 1 ∨ gh_sp P (ag x) = 2 := by omega
  rcases this with e | e | e
  · simp [e]
  · simp [e]
  · simp [e]
/-! how much one or two age classes weigh -/
theorem gh_cl0 {w : Nat → Nat} {l : List Nat} (h : ∀ x, x ∈ l → False) : gh_S w l = 0 := by
  cases l with
  | nil => rfl
  | cons x l => exact (h x (List.mem_cons_self ..)).elim
theorem gh_cl1 {w : Nat → Nat} {l : List Nat} {a : Nat} (hl : l.Nodup) (h : ∀ x, x ∈ l → x ∈ ids ∧ ag x = a) : gh_S w l ≤ gh_as ag w ids a := by
  unfold gh_as
  refine gh_S_le _ _ hl (fun x hx => ⟨(h x hx).1, ?_⟩)
  rw [if_pos (h x hx).2]
  exact Nat.le_refl _
theorem gh_cl2 {w : Nat → Nat} {l : List Nat} {a b : Nat} (hl : l.Nodup) (h : ∀ x, x ∈ l → x ∈ ids ∧ (ag x = a ∨ ag x = b)) : gh_S w l ≤ gh_as ag w ids a + gh_as ag w ids b := by
  unfold gh_as
  rw [← gh_S_add]
  refine gh_S_le _ _ hl (fun x hx => ⟨(h x hx).1, ?_⟩)
  rcases (h x hx).2 with e | e
  · rw [if_pos e]; omega
  · rw [if_pos e]; omega
/-- the room that a full pass needs -/
theorem gh_capF (wf : gh_WF N T P K ids ag nr nd rf ro la) {rz sp : Nat} (hz : rz ≤ 1) (hs : sp < 3) {l : List Nat} (hl : l.Nodup) (h : ∀ x, x ∈ l → x ∈ ids ∧ gh_sp P (gh_na P ag rz x) = sp) : gh_S (gh_w nr nd) l ≤ gh_hs sp := by
  obtain ⟨⟨c1, c2, c3, c4, c5, c6, c7, c8, c9⟩, hN, hX, hF, hR, hK, hA, hT⟩ := wf
  have hna : ∀ x, gh_na P ag rz x = if ag x < P then ag x + rz else ag x := fun x => rfl
  have hsp : sp = 0 ∨ sp = 1 ∨ sp = 2 := by omega
  have hrz : rz = 0 ∨ rz = 1 := by omega
  have hag : ∀ x, x ∈ l → ag x ≤ P ∧ (ag x < P ∧ gh_na P ag rz x = ag x + rz ∨ ¬ ag x < P ∧ gh_na P ag rz x = ag x) := by
    intro x hx
    refine ⟨(hX x (h x hx).1).2.2.2.2, ?_⟩
    by_cases c : ag x < P
    · exact Or.inl ⟨c, by rw [hna, if_pos c]⟩
    · exact Or.inr ⟨c, by rw [hna, if_neg c]⟩
  rcases hsp with e | e | e
  · subst e
    show _ ≤ 32
    refine Nat.le_trans (gh_cl1 (ag := ag) (a := 0) hl (fun x hx => ⟨(h x hx).1, ?_⟩)) (Nat.le_trans (hA 0 (by omega)) c2)
    have h1 := gh_sp0.mp (h x hx).2
    have h2 := hag x hx
    omega
  · subst e
    show _ ≤ 64
    have h1 : ∀ x, x ∈ l → gh_na P ag rz x ≠ 0 ∧ gh_na P ag rz x < P := fun x hx => gh_sp1.mp (h x hx).2
    have hP : P = 1 ∨ P = 2 ∨ P = 3 := by omega
    rcases hP with e | e | e
    · rw [gh_cl0 (fun x hx => ?_)]
      · omega
      · have := h1 x hx
        omega
    · refine Nat.le_trans (gh_cl1 (ag := ag) (a := 1 - rz) hl (fun x hx => ⟨(h x hx).1, ?_⟩)) (Nat.le_trans (hA (1 - rz) (by omega)) (by omega))
      have := h1 x hx
      have h2 := hag x hx
      omega
    · have a1 := hA (1 - rz) (by omega)
      have a2 := hA (2 - rz) (by omega)
      refine Nat.le_trans (gh_cl2 (ag := ag) (a := 1 - rz) (b := 2 - rz) hl (fun x hx => ⟨(h x hx).1, ?_⟩)) (by omega)
      have := h1 x hx
      have h2 := hag x hx
      omega
  · subst e
    show _ ≤ 96
    have a1 := hA (P - 1) (by omega)
    refine Nat.le_trans (gh_cl2 (ag := ag) (a := P) (b := P - 1) hl (fun x hx => ⟨(h x hx).1, ?_⟩)) (by omega)
    have := gh_sp2.mp (h x hx).2
    have h2 := hag x hx
    omega
theorem gh_capM (wf : gh_WF N T P K ids ag nr nd rf ro la) {l : List Nat} (hl : l.Nodup) (h : ∀ x, x ∈ l → gh_elM P ids ag x ∧ gh_sp P (gh_na P ag 1 x) = 2) : gh_S (gh_w nr nd) l ≤ 32 := by
  obtain ⟨⟨c1, c2, c3, c4, c5, c6, c7, c8, c9⟩, hN, hX, hF, hR, hK, hA, hT⟩ := wf
  refine Nat.le_trans (gh_cl1 (ag := ag) (a := P - 1) hl (fun x hx => ⟨(h x hx).1.1, ?_⟩)) (Nat.le_trans (hA (P - 1) (by omega)) c2)
  have h1 := (h x hx).1.2
  have h2 := gh_sp2.mp (h x hx).2
  have e : gh_na P ag 1 x = ag x + 1 := if_pos h1
  omega
/-! where the objects lie -/
theorem gx_sz (wf : gh_WF N T P K ids ag nr nd rf ro la) (k : gx_K P ids ag nr nd rf da ro L A bs os c me ba ot tp ob rt rs rp) : gh_S (gh_w nr nd) (L 0) ≤ 32 ∧ gh_S (gh_w nr nd) (L 1) ≤ 64 ∧ gh_S (gh_w nr nd) (L 2) ≤ 64 := by
  have h0 := k.2.2.1 0 (by omega)
  have h1 := k.2.2.1 1 (by omega)
  have h2 := k.2.2.1 2 (by omega)
  have e : gh_na P ag 0 = ag := gh_na0
  refine ⟨?_, ?_, ?_⟩
  · exact gh_capF wf (rz := 0) (sp := 0) (by omega) (by omega) h0.1 (fun x hx => by rw [e]; exact (h0.2.1 x).mp hx)
  · exact gh_capF wf (rz := 0) (sp := 1) (by omega) (by omega) h1.1 (fun x hx => by rw [e]; exact (h1.2.1 x).mp hx)
  · have hT : gh_as ag (gh_w nr nd) ids P ≤ T := wf.2.2.2.2.2.2.2
    have hT4 : T ≤ 64 := wf.1.2.2.2.1
    refine Nat.le_trans (gh_cl1 (ids := ids) (ag := ag) (a := P) h2.1 (fun x hx => ?_)) (Nat.le_trans hT hT4)
    have h := (h2.2.1 x).mp hx
    have h3 := gh_sp2.mp h.2
    have h4 := (wf.2.2.1 x h.1).2.2.2.2
    exact ⟨h.1, by omega⟩
/-- an object lies in the half in use of its space -/
theorem gx_at (k : gx_K P ids ag nr nd rf da ro L A bs os c me ba ot tp ob rt rs rp) {x : Nat} (hx : x ∈ ids) :
    bs (gh_sp P (ag x)) ≤ A x ∧ A x + gh_w nr nd x ≤ bs (gh_sp P (ag x)) + gh_S (gh_w nr nd) (L (gh_sp P (ag x))) := by
  obtain ⟨h1, h2, h3, _⟩ := k.2.2.1 (gh_sp P (ag x)) gh_sp3
  exact gh_lay_in _ _ x h3 ((h2 x).mpr ⟨hx, rfl⟩)
/-- by space, with numbers -/
theorem gx_atN (wf : gh_WF N T P K ids ag nr nd rf ro la) (k : gx_K P ids ag nr nd rf da ro L A bs os c me ba ot tp ob rt rs rp) {x : Nat} (hx : x ∈ ids) :
    (gh_sp P (ag x) = 0 ∧ bs 0 ≤ A x ∧ A x + gh_w nr nd x ≤ bs 0 + gh_S (gh_w nr nd) (L 0) ∧ ag x < P) ∨ (gh_sp P (ag x) = 1 ∧ bs 1 ≤ A x ∧ A x + gh_w nr nd x ≤ bs 1 + gh_S (gh_w nr nd) (L 1) ∧ ag x < P) ∨
    (gh_sp P (ag x) = 2 ∧ bs 2 ≤ A x ∧ A x + gh_w nr nd x ≤ bs 2 + gh_S (gh_w nr nd) (L 2) ∧ ag x = P) := by
  have h := gx_at k hx
  have hP : 1 ≤ P := wf.1.2.2.2.2.1
  have hle := (wf.2.2.1 x hx).2.2.2.2
  have h3 : gh_sp P (ag x) < 3 := gh_sp3
  have : gh_sp P (ag x) = 0 ∨ gh_sp P (ag x) = 1 ∨ gh_sp P (ag x) = 2 := by omega
  rcases this with e | e | e
  · rw [e] at h
    have := gh_sp0.mp e
    exact Or.inl ⟨e, h.1, h.2, by omega⟩
  · rw [e] at h
    have := gh_sp1.mp e
    exact Or.inr (Or.inl ⟨e, h.1, h.2, by omega⟩)
  · rw [e] at h
    have := gh_sp2.mp e
    exact Or.inr (Or.inr ⟨e, h.1, h.2, by omega⟩)
theorem gx_in (wf : gh_WF N T P K ids ag nr nd rf ro la) (k : gx_K P ids ag nr nd rf da ro L A bs os c me ba ot tp ob rt rs rp) {x : Nat} (hx : x ∈ ids) : 8 ≤ A x ∧ A x + gh_w nr nd x ≤ 392 ∧ (A x < 200 ↔ ag x < P) := by
  have h := gx_atN wf k hx
  have hz := gx_sz wf k
  have hh := k.2.1
  have hw := gh_w2 (nr := nr) (nd := nd) (x := x)
  unfold gx_half at hh
  omega
theorem gx_dis (wf : gh_WF N T P K ids ag nr nd rf ro la) (k : gx_K P ids ag nr nd rf da ro L A bs os c me ba ot tp ob rt rs rp) {x y : Nat} (hx : x ∈ ids) (hy : y ∈ ids) (hne : x ≠ y) : A x + gh_w nr nd x ≤ A y ∨ A y + gh_w nr nd y ≤ A x := by
  by_cases e : gh_sp P (ag x) = gh_sp P (ag y)
  · obtain ⟨h1, h2, h3, _⟩ := k.2.2.1 (gh_sp P (ag x)) gh_sp3
    exact gh_lay_dis _ _ x y h3 ((h2 x).mpr ⟨hx, rfl⟩) ((h2 y).mpr ⟨hy, e.symm⟩) hne
  · have h := gx_atN wf k hx
    have h' := gx_atN wf k hy
    have hz := gx_sz wf k
    have hh := k.2.1
    unfold gx_half at hh
    omega
/-- the context of a full pass -/
theorem gx_C_full (wf : gh_WF N T P K ids ag nr nd rf ro la) (k : gx_K P ids ag nr nd rf da ro L A bs os c me ba ot tp ob rt rs rp) {rz : Nat} (hz : rz ≤ 1) :
    gx_C ids ag nr nd rf A P (gh_elF ids) (gh_RF ids nr rf ro) os (fun sp => os sp + gh_hs sp) (gh_na P ag rz) := by
  have hh := k.2.1
  have hsz := gx_sz wf k
  have e0 : gh_hs 0 = 32 := rfl
  have e1 : gh_hs 1 = 64 := rfl
  have e2 : gh_hs 2 = 96 := rfl
  unfold gx_half at hh
  refine ⟨k.1, ?_, fun x y hx hy hne => gx_dis wf k hx hy hne, wf.2.2.2.1, ?_, ?_, ?_, ?_, fun x hx => hx, fun x i hx hi e => gh_RF_cl hx hi e, wf.1.2.2.2.2.1, wf.1.2.2.2.2.2.1⟩
  · intro x hx
    obtain ⟨b1, b2, b3, b4, b5⟩ := wf.2.2.1 x hx
    have hla : la ≤ 1000000 := wf.1.2.2.2.2.2.2.2.2
    have hi := gx_in wf k hx
    refine ⟨b1, by omega, b3, b4, b5, ?_, hi.1, hi.2.1⟩
    unfold gh_na
    by_cases z : ag x < P
    · rw [if_pos z]; omega
    · rw [if_neg z]; exact b5
  · intro sp x hs hx
    have h := gx_atN wf k hx
    have : sp = 0 ∨ sp = 1 ∨ sp = 2 := by omega
    rcases this with e | e | e <;> subst e <;> dsimp only <;> omega
  · intro sp sq hs hq hne
    have h1 : sp = 0 ∨ sp = 1 ∨ sp = 2 := by omega
    have h2 : sq = 0 ∨ sq = 1 ∨ sq = 2 := by omega
    rcases h1 with e | e | e <;> rcases h2 with e' | e' | e' <;> subst e <;> subst e' <;> dsimp only <;> omega
  · intro sp hs
    have h1 : sp = 0 ∨ sp = 1 ∨ sp = 2 := by omega
    rcases h1 with e | e | e <;> subst e <;> dsimp only <;> omega
  · intro sp l hs hl h
    exact Nat.add_le_add_left (gh_capF wf hz hs hl h) _
def gx_tbM (w : Nat → Nat) (L : Nat → List Nat) (bs os : Nat → Nat) : Nat → Nat := fun sp => if sp = 2 then bs 2 + gh_S w (L 2) else os sp
def gx_teM (bs os : Nat → Nat) : Nat → Nat := fun sp => if sp = 2 then bs 2 + 96 else os sp + gh_hs sp
/-- the context of a minor pass -/
theorem gx_C_minor (wf : gh_WF N T P K ids ag nr nd rf ro la) (k : gx_K P ids ag nr nd rf da ro L A bs os c me ba ot tp ob rt rs rp) :
    gx_C ids ag nr nd rf A P (gh_elM P ids ag) (gh_RM P ids ag nr rf ro) (gx_tbM (gh_w nr nd) L bs os) (gx_teM bs os) (gh_na P ag 1) := by
  have C := gx_C_full wf k (rz := 1) (by omega)
  have hh := k.2.1
  have hsz := gx_sz wf k
  have e0 : gh_hs 0 = 32 := rfl
  have e1 : gh_hs 1 = 64 := rfl
  have t0 : gx_tbM (gh_w nr nd) L bs os 0 = os 0 := rfl
  have t1 : gx_tbM (gh_w nr nd) L bs os 1 = os 1 := rfl
  have t2 : gx_tbM (gh_w nr nd) L bs os 2 = bs 2 + gh_S (gh_w nr nd) (L 2) := rfl
  have u0 : gx_teM bs os 0 = os 0 + 32 := rfl
  have u1 : gx_teM bs os 1 = os 1 + 64 := rfl
  have u2 : gx_teM bs os 2 = bs 2 + 96 := rfl
  unfold gx_half at hh
  refine ⟨C.1, C.2.1, C.2.2.1, C.2.2.2.1, ?_, ?_, ?_, ?_, fun x hx => hx.1, fun x i hx hi e => gh_rch_st hx hi e, wf.1.2.2.2.2.1, wf.1.2.2.2.2.2.1⟩
  · intro sp x hs hx
    have h := gx_atN wf k hx
    have : sp = 0 ∨ sp = 1 ∨ sp = 2 := by omega
    rcases this with e | e | e <;> subst e <;> omega
  · intro sp sq hs hq hne
    have h1 : sp = 0 ∨ sp = 1 ∨ sp = 2 := by omega
    have h2 : sq = 0 ∨ sq = 1 ∨ sq = 2 := by omega
    rcases h1 with e | e | e <;> rcases h2 with e' | e' | e' <;> subst e <;> subst e' <;> omega
  · intro sp hs
    have h1 : sp = 0 ∨ sp = 1 ∨ sp = 2 := by omega
    rcases h1 with e | e | e <;> subst e <;> omega
  · intro sp l hs hl h
    have h1 : sp = 0 ∨ sp = 1 ∨ sp = 2 := by omega
    rcases h1 with e | e | e
    · subst e
      have := gh_capF wf (rz := 1) (by omega) hs hl (fun x hx => ⟨(h x hx).1.1, (h x hx).2⟩)
      omega
    · subst e
      have := gh_capF wf (rz := 1) (by omega) hs hl (fun x hx => ⟨(h x hx).1.1, (h x hx).2⟩)
      omega
    · subst e
      have := gh_capM wf hl h
      omega
/-- the heap is as it was after a pass that is forgotten -/
theorem gx_K_me (k : gx_K P ids ag nr nd rf da ro L A bs os c me ba ot tp ob rt rs rp) {me' : Nat → Int32} (ho : ∀ x, x ∈ ids → gx_obj ag nr nd rf da me' A x) : gx_K P ids ag nr nd rf da ro L A bs os c me' ba ot tp ob rt rs rp := by
  obtain ⟨k1, k2, k3, k4, k5, k6⟩ := k
  refine ⟨k1, k2, k3, ho, k5, gx_rem_congr (fun a => ?_) k6⟩
  have hme : ∀ x j, x ∈ L 2 → j < nr x → me' (A x + 2 + j) = me (A x + 2 + j) := by
    intro x j hx hj
    have hxi := ((k3 2 (by omega)).2.1 x).mp hx
    rw [(ho x hxi.1).2.2.1 j hj, (k4 x hxi.1).2.2.1 j hj]
  constructor
  · rintro ⟨x, hx, j, hj, e, hy⟩
    refine ⟨x, hx, j, hj, e, ?_⟩
    subst e
    rw [hme x j hx hj]
    exact hy
  · rintro ⟨x, hx, j, hj, e, hy⟩
    refine ⟨x, hx, j, hj, e, ?_⟩
    subst e
    rw [hme x j hx hj] at hy
    exact hy
end
end
section
/-! the component's full collection -/
section
variable {NL TL TA RT TS rc pF pR pP : Int32} {me ba ot tp ob rt rs rp fw fr sc cp ss : Nat → Int32} {ids : List Nat} {ag nr nd : Nat → Nat} {rf : Nat → Nat → Nat} {da : Nat → Nat → Int32} {ro : Nat → Nat} {A tb te na c0 B pg bs os : Nat → Nat} {N T P K la c cur : Nat} {el R : Nat → Prop} {D E L : Nat → List Nat} {st : Nat → Int32}
theorem gx_adopt {post : SX → Prop} {sp : Nat} (hs : sp < 3) (k : post (NL, TL, TA, RT, TS, rc, pF, pR, pP, me, ba, ot, upd tp sp (fr sp), upd ob sp (cp sp), rt, rs, rp, fw, fr, sc, cp, ss)) : wpX_adopt post (NL, TL, TA, RT, TS, rc, pF, pR, pP, me, ba, ot, tp, ob, rt, rs, rp, fw, fr, sc, cp, ss) (nI sp) := by
  unfold wpX_adopt
  refine ⟨pk_in sp 3 hs, pk_in sp 3 hs, ?_⟩
  rw [nI_clamp (n := sp) (by omega)]
  exact nm_e ⟨pk_in sp 3 hs, pk_in sp 3 hs, nm_e k⟩
theorem gx_flip {post : SX → Prop} {sp : Nat} (hs : sp < 3) (k : post (NL, TL, TA, RT, TS, rc, pF, pR, pP, me, upd ba sp (ot sp), upd ot sp (ba sp), upd tp sp (fr sp), upd ob sp (cp sp), rt, rs, rp, fw, fr, sc, cp, ss)) : wpX_flip post (NL, TL, TA, RT, TS, rc, pF, pR, pP, me, ba, ot, tp, ob, rt, rs, rp, fw, fr, sc, cp, ss) (nI sp) := by
  unfold wpX_flip
  refine ⟨pk_in sp 3 hs, ?_⟩
  rw [nI_clamp (n := sp) (by omega)]
  exact nm_e ⟨pk_in sp 3 hs, pk_in sp 3 hs, nm_e ⟨pk_in sp 3 hs, nm_e (gx_adopt hs k)⟩⟩
theorem gx_totalWords {post : Int32 → Prop} {w : Nat → Nat} (h : ∀ sp, sp < 3 → ba sp = nI (bs sp) ∧ tp sp = nI (bs sp + gh_S w (L sp))) (k : post (nI (gh_S w (L 0) + gh_S w (L 1) + gh_S w (L 2)))) : wpX_totalWords post (NL, TL, TA, RT, TS, rc, pF, pR, pP, me, ba, ot, tp, ob, rt, rs, rp, fw, fr, sc, cp, ss) := by
  have h0 := h 0 (by omega)
  have h1 := h 1 (by omega)
  have h2 := h 2 (by omega)
  unfold wpX_totalWords
  refine gx_words (sp := 0) (by omega) h0.2 h0.1 (by omega) (gx_words (sp := 1) (by omega) h1.2 h1.1 (by omega) (gx_words (sp := 2) (by omega) h2.2 h2.1 (by omega) ?_))
  rw [Nat.add_sub_cancel_left, Nat.add_sub_cancel_left, Nat.add_sub_cancel_left, nI_add, nI_add]
  exact k
theorem gx_finish {post : Int32 → SX → Prop} {w : Nat → Nat} {b : Nat} {p0 : Int32} (h : ∀ sp, sp < 3 → ba sp = nI (bs sp) ∧ tp sp = nI (bs sp + gh_S w (L sp))) (hb : gh_S w (L 0) + gh_S w (L 1) + gh_S w (L 2) ≤ b)
    (k : post p0 (NL, TL, TA, RT, TS, rc, pF, pR, pP, me, ba, ot, tp, ob, rt, rs, rp, fw, fr, sc, cp, upd (upd (upd ss 0 p0) 1 (nI (b - (gh_S w (L 0) + gh_S w (L 1) + gh_S w (L 2))))) 2 pP)) : wpX_finish post (NL, TL, TA, RT, TS, rc, pF, pR, pP, me, ba, ot, tp, ob, rt, rs, rp, fw, fr, sc, cp, ss) p0 (nI b) := by
  unfold wpX_finish
  refine gx_totalWords h ?_
  rw [pk_sub hb]
  exact nm_e (nm_e (nm_e k))
/-! at the end of a pass -/
theorem gx_pgall (I : gx_I ids ag nr nd rf da A P el R tb na c0 D E B pg cur me fw fr sc cp pP) (hE : ∀ s, s < 3 → E s = []) {x : Nat} (hx : gx_inC D E x) : pg x = nr x := by
  obtain ⟨s, hs, hm⟩ := hx
  rw [hE s hs, List.append_nil] at hm
  exact I.2.2.2.2.1.1 s x hs hm
theorem gx_closed (I : gx_I ids ag nr nd rf da A P el R tb na c0 D E B pg cur me fw fr sc cp pP) (hE : ∀ s, s < 3 → E s = []) {x i : Nat} (hx : gx_inC D E x) (hi : i < nr x) (e : el (rf x i)) : gx_inC D E (rf x i) := by
  have hp := gx_pgall I hE hx
  exact ((((I.2.2.2.1 x hx).2.2.1 i hi).1 (by omega)).1 e).1
noncomputable def gx_A' (D E : Nat → List Nat) (B A : Nat → Nat) : Nat → Nat := fun y => gh_ite (gx_inC D E y) (B y) (A y)
theorem gx_A't {x : Nat} (h : gx_inC D E x) : gx_A' D E B A x = B x := gh_ite_t h
theorem gx_A'f {x : Nat} (h : ¬ gx_inC D E x) : gx_A' D E B A x = A x := gh_ite_f h
theorem gx_obj_new (I : gx_I ids ag nr nd rf da A P el R tb na c0 D E B pg cur me fw fr sc cp pP) (hE : ∀ s, s < 3 → E s = []) {x : Nat} (hx : gx_inC D E x) : gx_obj na nr nd rf da me (gx_A' D E B A) x := by
  have hp := gx_pgall I hE hx
  obtain ⟨h1, h2, h3, h4⟩ := I.2.2.2.1 x hx
  unfold gx_obj
  rw [gx_A't hx]
  refine ⟨h1, h2, fun i hi => ?_, h4⟩
  have h := (h3 i hi).1 (by omega)
  by_cases e : el (rf x i)
  · have g := h.1 e
    rw [gx_A't g.1]
    exact g.2
  · rw [gx_A'f (fun d => e (gx_inC_el I d).1)]
    exact h.2 e
theorem gx_mem_D (I : gx_I ids ag nr nd rf da A P el R tb na c0 D E B pg cur me fw fr sc cp pP) (hE : ∀ s, s < 3 → E s = []) {x sp : Nat} (hs : sp < 3) : x ∈ D sp ↔ gx_inC D E x ∧ gh_sp P (na x) = sp := by
  constructor
  · intro h
    have hm := List.mem_append.mpr (Or.inl h : x ∈ D sp ∨ x ∈ E sp)
    exact ⟨⟨sp, hs, hm⟩, gx_inC_sp I hs hm⟩
  · rintro ⟨⟨s, h1, h2⟩, e⟩
    have := gx_inC_sp I h1 h2
    have z : s = sp := this.symm.trans e
    subst z
    rw [hE s h1, List.append_nil] at h2
    exact h2
/-- facts of a space at the end -/
theorem gx_end_sp (I : gx_I ids ag nr nd rf da A P el R tb na c0 D E B pg cur me fw fr sc cp pP) (hE : ∀ s, s < 3 → E s = []) {sp : Nat} (hs : sp < 3) :
    (D sp).Nodup ∧ gh_lay (gh_w nr nd) B (tb sp) (D sp) ∧ fr sp = nI (tb sp + gh_S (gh_w nr nd) (D sp)) ∧ cp sp = nI (c0 sp + (D sp).length) := by
  obtain ⟨h1, h2, h3, h4, h5, h6⟩ := I.1 sp hs
  rw [hE sp hs, List.append_nil] at h1 h3 h5 h6
  exact ⟨h1, h3, h5, h6⟩
theorem gx_lay' (I : gx_I ids ag nr nd rf da A P el R tb na c0 D E B pg cur me fw fr sc cp pP) (hE : ∀ s, s < 3 → E s = []) {sp : Nat} (hs : sp < 3) : gh_lay (gh_w nr nd) (gx_A' D E B A) (tb sp) (D sp) :=
  gh_lay_congr _ _ (fun x hx => gx_A't ((gx_mem_D I hE hs).mp hx).1) (gx_end_sp I hE hs).2.1
/-- weights of the copies in the tenured space -/
theorem gx_D2w {rz : Nat} (I : gx_I ids ag nr nd rf da A P el R tb (gh_na P ag rz) c0 D E B pg cur me fw fr sc cp pP) (hE : ∀ s, s < 3 → E s = []) (hR : ∀ x, R x ↔ gx_inC D E x) (hel : ∀ x, el x → x ∈ ids) (hN : ids.Nodup) (hX : ∀ x, x ∈ ids → ag x ≤ P) (hP : 1 ≤ P) (h1 : rz = 1) :
    gh_S (gh_w nr nd) (D 2) = gh_mw R ag (gh_w nr nd) ids P + gh_mw R ag (gh_w nr nd) ids (P - 1) ∧ gh_S (fun x => if ag x < P then gh_w nr nd x else 0) (D 2) = gh_mw R ag (gh_w nr nd) ids (P - 1) := by
  subst h1
  have hm : ∀ x, x ∈ D 2 ↔ gx_inC D E x ∧ gh_sp P (gh_na P ag 1 x) = 2 := fun x => gx_mem_D I hE (by omega)
  have hna : ∀ x, gh_na P ag 1 x = if ag x < P then ag x + 1 else ag x := fun x => rfl
  have hd := (gx_end_sp I hE (sp := 2) (by omega)).1
  unfold gh_mw
  rw [← gh_S_add]
  refine ⟨gh_S_eq hd hN (fun x hx => ?_) (fun x hx hn => ?_), gh_S_eq hd hN (fun x hx => ?_) (fun x hx hn => ?_)⟩
  · obtain ⟨h1, h2⟩ := (hm x).mp hx
    have hid := hel x (gx_inC_el I h1).1
    have hb : gh_bl (R x) = true := gh_bl_iff.mpr ((hR x).mpr h1)
    have h3 := gh_sp2.mp h2
    have h4 := hX x hid
    have h5 := hna x
    refine ⟨hid, ?_⟩
    by_cases a : ag x < P
    · rw [if_pos a] at h5
      rw [if_neg (fun c => by omega), if_pos ⟨hb, by omega⟩]; omega
    · rw [if_pos ⟨hb, by omega⟩, if_neg (fun c => by omega)]; omega
  · by_cases hr : R x
    · have hc := (hR x).mp hr
      have h5 := hna x
      have h4 := hX x hx
      have h6 : ¬ (ag x = P ∨ ag x = P - 1) := by
        intro c
        apply hn
        refine (hm x).mpr ⟨hc, gh_sp2.mpr ?_⟩
        by_cases a : ag x < P
        · rw [if_pos a] at h5; omega
        · rw [if_neg a] at h5; omega
      rw [if_neg (fun c => h6 (Or.inl c.2)), if_neg (fun c => h6 (Or.inr c.2))]
    · rw [if_neg (fun c => hr (gh_bl_iff.mp c.1)), if_neg (fun c => hr (gh_bl_iff.mp c.1))]
  · obtain ⟨h1, h2⟩ := (hm x).mp hx
    have hid := hel x (gx_inC_el I h1).1
    have hb : gh_bl (R x) = true := gh_bl_iff.mpr ((hR x).mpr h1)
    have h3 := gh_sp2.mp h2
    have h4 := hX x hid
    have h5 := hna x
    refine ⟨hid, ?_⟩
    by_cases a : ag x < P
    · rw [if_pos a] at h5 ⊢
      rw [if_pos ⟨hb, by omega⟩]
    · rw [if_neg a, if_neg (fun c => by omega)]
  · by_cases hr : R x
    · have hc := (hR x).mp hr
      have h5 := hna x
      rw [if_neg]
      intro c
      apply hn
      refine (hm x).mpr ⟨hc, gh_sp2.mpr ?_⟩
      rw [if_pos (by omega)] at h5
      omega
    · rw [if_neg (fun c => hr (gh_bl_iff.mp c.1))]
theorem gx_D2z (I : gx_I ids ag nr nd rf da A P el R tb (gh_na P ag 0) c0 D E B pg cur me fw fr sc cp pP) (hE : ∀ s, s < 3 → E s = []) : gh_S (fun x => if ag x < P then gh_w nr nd x else 0) (D 2) = 0 := by
  have e : ∀ l : List Nat, (∀ x, x ∈ l → ¬ ag x < P) → gh_S (fun x => if ag x < P then gh_w nr nd x else 0) l = 0 := by
    intro l
    induction l with
    | nil => intro _; rfl
    | cons y l ih =>
      intro h
      simp only [gh_S]
      rw [if_neg (h y (List.mem_cons_self ..)), ih (fun x hx => h x (List.mem_cons_of_mem _ hx))]
  apply e
  intro x hx
  have h := ((gx_mem_D I hE (sp := 2) (by omega)).mp hx).2
  rw [gh_na0] at h
  have := gh_sp2.mp h
  omega
theorem gx_rememberFields' {post : SX → Prop} {gg : Nat → Nat} {lo b : Nat} {l : List Nat} {Q : Nat → Prop} {b0 n0 : Int32} (hb0 : b0 = nI b) (hn0 : n0 = nI l.length) (hln : l.length < 2 ^ 31) (hl : gh_lay (gh_w nr nd) A b l)
    (hx : ∀ x, x ∈ l → gx_dsc me (A x) (nr x) (nd x) (gg x) ∧ lo ≤ A x ∧ A x + 2 + nr x ≤ lo + 96 ∧ A x + 2 + nr x ≤ 392) (hlo : ∀ b, Q b → lo ≤ b ∧ b < lo + 96) (hR : gx_rem c rs rp Q)
    (k : ∀ c' rs' rp', gx_rem c' rs' rp' (fun b => Q b ∨ ∃ x, x ∈ l ∧ ∃ j, j < nr x ∧ b = A x + 2 + j ∧ gx_yI (me b)) → post (NL, TL, TA, RT, TS, nI c', pF, pR, pP, me, ba, ot, tp, ob, rt, rs', rp', fw, fr, sc, cp, ss)) :
    wpX_rememberFields post (NL, TL, TA, RT, TS, nI c, pF, pR, pP, me, ba, ot, tp, ob, rt, rs, rp, fw, fr, sc, cp, ss) b0 n0 := by
  subst hb0 hn0
  exact gx_rememberFields hln hl hx hlo hR k
/-- the walk behind the pass -/
theorem gx_full36 {post : Int32 → SX → Prop} {x1 : Int32} {rz j : Nat} (wf : gh_WF N T P K ids ag nr nd rf ro la) (hz : rz ≤ 1) (hj : (x1 = 2 ∧ j = 5) ∨ (x1 ≠ 2 ∧ j = 6)) (k : gx_K P ids ag nr nd rf da ro L A bs os c me ba ot tp ob rt rs rp)
    (I : gx_I ids ag nr nd rf da A P (gh_elF ids) (gh_RF ids nr rf ro) os (gh_na P ag rz) (fun _ => 0) D E B pg 0 me fw fr sc cp pP) (hE : ∀ s, s < 3 → E s = []) (hR : ∀ x, gh_RF ids nr rf ro x ↔ gx_inC D E x)
    (kk : ∀ u, gx_R N T P K (gh_kp (gh_RF ids nr rf ro) ids) (gh_na P ag rz) nr nd rf da ro (upd (upd (upd (upd st j (st j + 1)) 0 x1) 1 (nI (gh_dw (gh_RF ids nr rf ro) (gh_w nr nd) ids))) 2 pP) u → post x1 u) :
    wX_fullCollection_36 post x1 (nI N) (nI T) (nI P) (nI K) TS (nI c) pF pR pP me ba ot tp ob rt rs rp fw fr sc cp st := by
  have C := gx_C_full wf k hz
  have hK8 : K ≤ 8 := wf.1.2.2.2.2.2.2.2.1
  have hP3 : P ≤ 3 := wf.1.2.2.2.2.2.1
  have hN := wf.2.1
  have kk1 := k.2.2.1
  have hkp : ∀ x, x ∈ gh_kp (gh_RF ids nr rf ro) ids ↔ gx_inC D E x := by
    intro x
    rw [gh_kp_mem, hR]
    exact ⟨fun h => h.2, fun h => ⟨(gx_inC_el I h).1, h⟩⟩
  have hmD : ∀ sp, sp < 3 → ∀ x, x ∈ D sp ↔ x ∈ gh_kp (gh_RF ids nr rf ro) ids ∧ gh_sp P (gh_na P ag rz x) = sp := fun sp hs x => by rw [hkp]; exact gx_mem_D I hE hs
  have hA0 : gx_A' D E B A 0 = 0 := by
    rw [gx_A'f]
    · exact k.1
    · intro c
      have := C.2.1 0 (gx_inC_el I c).1
      omega
  have hb0 : ∀ sp, sp < 3 → ba sp = nI (bs sp) ∧ tp sp = nI (bs sp + gh_S (gh_w nr nd) (L sp)) := fun sp hs => ⟨(kk1 sp hs).2.2.2.1, (kk1 sp hs).2.2.2.2.2.1⟩
  have g0 := gx_end_sp I hE (sp := 0) (by omega)
  have g1 := gx_end_sp I hE (sp := 1) (by omega)
  have g2 := gx_end_sp I hE (sp := 2) (by omega)
  have o0 := kk1 0 (by omega)
  have o1 := kk1 1 (by omega)
  have o2 := kk1 2 (by omega)
  unfold wX_fullCollection_36
  refine gx_totalWords hb0 ?_
  refine gx_clearRemembered k.2.2.2.2.2 (fun rp' hrem => ?_)
  refine gx_flip (sp := 0) (by omega) ?_
  refine gx_flip (sp := 1) (by omega) ?_
  refine gx_flip (sp := 2) (by omega) ?_
  refine gx_forwardRoots hK8 (A0 := A) (A1 := gx_A' D E B A) (ro := ro) ?_ ?_ (fun r hr => k.2.2.2.2.1 r (by omega)) (fun q hq => ?_)
  · intro r hr
    rcases wf.2.2.2.2.1 r with e | e
    · rw [e, k.1]; omega
    · have := (gx_in wf k e).2.1
      have hw := gh_w2 (nr := nr) (nd := nd) (x := ro r)
      omega
  · intro r hr
    by_cases z : gx_inC D E (ro r)
    · have h8 := gx_B8 C I z
      have hf := (I.2.1.2 _ (gx_inC_el I z).1).1 z
      rw [gx_A't z, hf]
      exact Or.inr ⟨nI_ne0 (by omega) (by omega), rfl⟩
    · rw [gx_A'f z]
      refine Or.inl ⟨?_, rfl⟩
      rcases wf.2.2.2.2.1 r with e | e
      · rw [e, k.1]; exact I.2.1.1
      · exact (I.2.1.2 _ e).2 z
  · have hx8 : ∀ x, x ∈ D 2 → gx_dsc me (gx_A' D E B A x) (nr x) (nd x) (gh_na P ag rz x) ∧ os 2 ≤ gx_A' D E B A x ∧ gx_A' D E B A x + 2 + nr x ≤ os 2 + 96 ∧ gx_A' D E B A x + 2 + nr x ≤ 392 := by
      intro x hx
      have hc := ((gx_mem_D I hE (sp := 2) (by omega)).mp hx).1
      have hid := (gx_inC_el I hc).1
      have hb := C.2.1 x hid
      have h8 := gx_B8 C I hc
      have hn := I.2.2.2.1 x hc
      have hw : gh_w nr nd x = 2 + nr x + nd x := rfl
      have hl := gh_lay_in _ _ x g2.2.1 hx
      have hcap := C.2.2.2.2.2.2.2.1 2 (D 2) (by omega) g2.1 (fun y hy => ⟨(gx_inC_el I ((gx_mem_D I hE (sp := 2) (by omega)).mp hy).1).1, ((gx_mem_D I hE (sp := 2) (by omega)).mp hy).2⟩)
      have e2 : gh_hs 2 = 96 := rfl
      dsimp only at hcap
      rw [gx_A't hc]
      exact ⟨⟨by omega, by omega, by omega, by omega, hn.2.1⟩, hl.1, by omega, by omega⟩
    have hlen : (D 2).length < 2 ^ 31 := by
      have h1 := gx_Dlen C I
      have h2 := gh_len80 wf
      omega
    refine gx_rememberFields' (A := gx_A' D E B A) (gg := gh_na P ag rz) (lo := os 2) (b := os 2) (l := D 2) o2.2.2.2.2.1 (g2.2.2.2.trans (by rw [Nat.zero_add])) hlen (gx_lay' I hE (by omega)) hx8 (fun b hb => hb.elim) hrem (fun c' rs' rp'' hrem' => ?_)
    have hfin : ∀ sp, sp < 3 → upd (upd (upd ba 0 (ot 0)) 1 (upd ot 0 (ba 0) 1)) 2 (upd (upd ot 0 (ba 0)) 1 (upd ba 0 (ot 0) 1) 2) sp = nI (os sp) ∧ upd (upd (upd tp 0 (fr 0)) 1 (fr 1)) 2 (fr 2) sp = nI (os sp + gh_S (gh_w nr nd) (D sp)) := by
      intro sp hs
      have : sp = 0 ∨ sp = 1 ∨ sp = 2 := by omega
      rcases this with e | e | e <;> subst e
      · exact ⟨o0.2.2.2.2.1, g0.2.2.1⟩
      · exact ⟨o1.2.2.2.2.1, g1.2.2.1⟩
      · exact ⟨o2.2.2.2.2.1, g2.2.2.1⟩
    have hsum : gh_S (gh_w nr nd) (D 0) + gh_S (gh_w nr nd) (D 1) + gh_S (gh_w nr nd) (D 2) = gh_S (gh_w nr nd) (gh_kp (gh_RF ids nr rf ro) ids) := by
      have hl : ∀ sp, sp < 3 → gh_S (gh_w nr nd) (D sp) = gh_S (fun x => if gh_sp P (gh_na P ag rz x) = sp then gh_w nr nd x else 0) (gh_kp (gh_RF ids nr rf ro) ids) := by
        intro sp hs
        refine gh_S_eq (gx_end_sp I hE hs).1 (gh_kp_nodup hN) (fun x hx => ?_) (fun x hx hn => ?_)
        · have h := (hmD sp hs x).mp hx
          rw [if_pos h.2]
          exact ⟨h.1, rfl⟩
        · rw [if_neg]
          intro e
          exact hn ((hmD sp hs x).mpr ⟨hx, e⟩)
      rw [hl 0 (by omega), hl 1 (by omega), hl 2 (by omega), ← gh_S_add, ← gh_S_add]
      apply gh_S_congr
      intro x _
      have h3 : gh_sp P (gh_na P ag rz x) < 3 := gh_sp3
      have : gh_sp P (gh_na P ag rz x) = 0 ∨ gh_sp P (gh_na P ag rz x) = 1 ∨ gh_sp P (gh_na P ag rz x) = 2 := by omega
      rcases this with e | e | e
      · simp [e]
      · simp [e]
      · simp [e]
    have htot := gx_Ltot hN k (gh_w nr nd)
    have hdw := gh_kp_dw (R := gh_RF ids nr rf ro) (w := gh_w nr nd) (ids := ids)
    have hKK : gx_K P (gh_kp (gh_RF ids nr rf ro) ids) (gh_na P ag rz) nr nd rf da ro D (gx_A' D E B A) os bs c' me (upd (upd (upd ba 0 (ot 0)) 1 (upd ot 0 (ba 0) 1)) 2 (upd (upd ot 0 (ba 0)) 1 (upd ba 0 (ot 0) 1) 2)) (upd (upd (upd ot 0 (ba 0)) 1 (upd ba 0 (ot 0) 1)) 2 (upd (upd ba 0 (ot 0)) 1 (upd ot 0 (ba 0) 1) 2)) (upd (upd (upd tp 0 (fr 0)) 1 (fr 1)) 2 (fr 2)) (upd (upd (upd ob 0 (cp 0)) 1 (cp 1)) 2 (cp 2)) q rs' rp'' := by
      refine ⟨hA0, ?_, ?_, fun x hx => gx_obj_new I hE ((hkp x).mp hx), ?_, gx_rem_congr (fun b => ⟨fun h => h.elim (fun f => f.elim) id, fun h => Or.inr h⟩) hrem'⟩
      · have hh := k.2.1
        unfold gx_half at hh ⊢
        omega
      · intro sp hs
        refine ⟨(gx_end_sp I hE hs).1, fun x => hmD sp hs x, gx_lay' I hE hs, (hfin sp hs).1, ?_, (hfin sp hs).2, ?_⟩
        · have : sp = 0 ∨ sp = 1 ∨ sp = 2 := by omega
          rcases this with e | e | e <;> subst e
          · exact o0.2.2.2.1
          · exact o1.2.2.2.1
          · exact o2.2.2.2.1
        · have : sp = 0 ∨ sp = 1 ∨ sp = 2 := by omega
          rcases this with e | e | e <;> subst e
          · exact g0.2.2.2.trans (by rw [Nat.zero_add])
          · exact g1.2.2.2.trans (by rw [Nat.zero_add])
          · exact g2.2.2.2.trans (by rw [Nat.zero_add])
      · intro r hr
        rw [hq r hr]
        by_cases z : r < K
        · rw [if_pos z]
        · have e0 := wf.2.2.2.2.2.1 r (by omega)
          rw [if_neg z, k.2.2.2.2.1 r hr, e0, hA0, k.1]
    rcases hj with ⟨hx1, hj⟩ | ⟨hx1, hj⟩
    · subst hj
      refine br_t hx1 (nm_e ?_)
      unfold wX_fullCollection_109
      refine gx_finish (w := gh_w nr nd) (bs := os) (L := D) hfin (by omega) (kk _ ⟨⟨rfl, rfl, rfl, rfl⟩, ?_, D, _, os, bs, c', rfl, hKK⟩)
      have e : gh_S (gh_w nr nd) (L 0) + gh_S (gh_w nr nd) (L 1) + gh_S (gh_w nr nd) (L 2) - (gh_S (gh_w nr nd) (D 0) + gh_S (gh_w nr nd) (D 1) + gh_S (gh_w nr nd) (D 2)) = gh_dw (gh_RF ids nr rf ro) (gh_w nr nd) ids := by omega
      rw [e]
    · subst hj
      refine br_f hx1 (nm_e ?_)
      unfold wX_fullCollection_109
      refine gx_finish (w := gh_w nr nd) (bs := os) (L := D) hfin (by omega) (kk _ ⟨⟨rfl, rfl, rfl, rfl⟩, ?_, D, _, os, bs, c', rfl, hKK⟩)
      have e : gh_S (gh_w nr nd) (L 0) + gh_S (gh_w nr nd) (L 1) + gh_S (gh_w nr nd) (L 2) - (gh_S (gh_w nr nd) (D 0) + gh_S (gh_w nr nd) (D 1) + gh_S (gh_w nr nd) (D 2)) = gh_dw (gh_RF ids nr rf ro) (gh_w nr nd) ids := by omega
      rw [e]
/-- one full pass -/
theorem gx_passF {post : SX → Prop} {rz : Nat} {p1 : Int32} (wf : gh_WF N T P K ids ag nr nd rf ro la) (hz : rz ≤ 1) (hp1 : p1 = nI rz) (k : gx_K P ids ag nr nd rf da ro L A bs os c me ba ot tp ob rt rs rp)
    (kk : ∀ D' E' B' pg' me' fw' fr' sc' cp' pP', gx_K P ids ag nr nd rf da ro L A bs os c me' ba ot tp ob rt rs rp → gx_I ids ag nr nd rf da A P (gh_elF ids) (gh_RF ids nr rf ro) os (gh_na P ag rz) (fun _ => 0) D' E' B' pg' 0 me' fw' fr' sc' cp' pP' →
      (∀ s, s < 3 → E' s = []) → (∀ x, gh_RF ids nr rf ro x ↔ gx_inC D' E' x) → post (nI N, nI T, nI P, nI K, TS, nI c, 1, p1, pP', me', ba, ot, tp, ob, rt, rs, rp, fw', fr', sc', cp', ss)) :
    wpX_tracePass post (nI N, nI T, nI P, nI K, TS, nI c, pF, pR, pP, me, ba, ot, tp, ob, rt, rs, rp, fw, fr, sc, cp, ss) 1 p1 := by
  have C := gx_C_full wf k hz
  have hc : c ≤ 96 := by
    obtain ⟨s, p, hr, _⟩ := k.2.2.2.2.2
    exact hr.1
  have n1 : ¬ (1 : Int32) = 0 := by decide
  refine gx_tracePass (K := K) (c := c) (sx := fun _ => 0) (sj := fun _ => 0) (c0 := fun _ => 0) C ⟨rfl, Or.inr ⟨n1, fun x hx => hx⟩, rz, hz, hp1, fun x _ => rfl⟩ (gh_len80 wf) (Or.inr rfl) k.2.2.2.1 ?_ ?_ wf.1.2.2.2.2.2.2.2.1 k.2.2.2.2.1 wf.2.2.2.2.1 (fun r e => gh_rch_sd ⟨r, rfl⟩ e) hc (fun z => absurd z n1) (fun D' E' B' pg' me' fw' fr' sc' cp' pP' I' hE hr _ => ?_)
  · intro s hs
    rw [if_neg (fun d => n1 d.1)]
    exact (k.2.2.1 s hs).2.2.2.2.1
  · intro s hs
    rw [if_neg (fun d => n1 d.1)]
    rfl
  · refine kk D' E' B' pg' me' fw' fr' sc' cp' pP' (gx_K_me k I'.2.2.1) I' hE (fun x => ⟨fun h => ?_, fun h => (gx_inC_el I' h).2⟩)
    refine h (gx_inC D' E') ?_ (fun y i hy hi e => gx_closed I' hE hy hi e)
    rintro y ⟨r, rfl⟩ e
    by_cases z : r < K
    · exact hr r z e
    · have h0 := wf.2.2.2.2.2.1 r (by omega)
      rw [h0] at e
      have := (wf.2.2.1 0 e).1
      omega
theorem gx_fullCollection {post : Int32 → SX → Prop} (wf : gh_WF N T P K ids ag nr nd rf ro la) (h : gx_R N T P K ids ag nr nd rf da ro st (NL, TL, TA, RT, TS, rc, pF, pR, pP, me, ba, ot, tp, ob, rt, rs, rp, fw, fr, sc, cp, ss))
    (kk : ∀ u, gx_R N T P K (gh_full T P ids ag nr nd rf ro st).2.1 (gh_full T P ids ag nr nd rf ro st).2.2.1 nr nd rf da ro (gh_full T P ids ag nr nd rf ro st).2.2.2 u → post (gh_full T P ids ag nr nd rf ro st).1 u) : wpX_fullCollection post (NL, TL, TA, RT, TS, rc, pF, pR, pP, me, ba, ot, tp, ob, rt, rs, rp, fw, fr, sc, cp, ss) := by
  obtain ⟨⟨e1, e2, e3, e4⟩, e5, L, A, bs, os, c, e6, k⟩ := h
  subst e1 e2 e3 e4 e5 e6
  have hX : ∀ x, x ∈ ids → ag x ≤ P := fun x hx => (wf.2.2.1 x hx).2.2.2.2
  have hP1 : 1 ≤ P := wf.1.2.2.2.2.1
  unfold wpX_fullCollection
  refine gx_passF (rz := 1) wf (by omega) rfl k (fun D E B pg me' fw' fr' sc' cp' pP' k' I hE hR => ?_)
  have g2 := gx_end_sp I hE (sp := 2) (by omega)
  have hw := gx_D2w I hE hR (fun x hx => hx) wf.2.1 hX hP1 rfl
  have C := gx_C_full wf k (rz := 1) (by omega)
  have h160 := gh_tot160 wf
  have w1 : gh_mw (gh_RF ids nr rf ro) ag (gh_w nr nd) ids P ≤ gh_S (gh_w nr nd) ids := gh_mw_le
  have w2 : gh_mw (gh_RF ids nr rf ro) ag (gh_w nr nd) ids (P - 1) ≤ gh_S (gh_w nr nd) ids := gh_mw_le
  have hT64 : T ≤ 64 := wf.1.2.2.2.1
  have ep : pP' = nI (gh_mw (gh_RF ids nr rf ro) ag (gh_w nr nd) ids (P - 1)) := by
    rw [I.2.2.2.2.2, hE 2 (by omega), List.append_nil, hw.2]
  have ef : fr' 2 - ot 2 = nI (gh_mw (gh_RF ids nr rf ro) ag (gh_w nr nd) ids P + gh_mw (gh_RF ids nr rf ro) ag (gh_w nr nd) ids (P - 1)) := by
    rw [g2.2.2.1, (k.2.2.1 2 (by omega)).2.2.2.2.1, pk_sub (by omega), Nat.add_sub_cancel_left, hw.1]
  refine pk_le (gh_mw (gh_RF ids nr rf ro) ag (gh_w nr nd) ids P + gh_mw (gh_RF ids nr rf ro) ag (gh_w nr nd) ids (P - 1)) T (fun hle => ?_) (fun hlt => ?_) ef rfl
  · refine gx_full36 (rz := 1) (j := 5) wf (by omega) (Or.inl ⟨rfl, rfl⟩) k' I hE hR (fun u hu => ?_)
    rw [gh_full_t hle] at kk
    rw [ep] at hu
    exact kk u hu
  · refine gx_passF (rz := 0) wf (by omega) rfl k' (fun D2 E2 B2 pg2 me2 fw2 fr2 sc2 cp2 pP2 k2 I2 hE2 hR2 => ?_)
    refine gx_full36 (rz := 0) (j := 6) wf (by omega) (Or.inr ⟨by decide, rfl⟩) k2 I2 hE2 hR2 (fun u hu => ?_)
    rw [gh_full_f (by omega)] at kk
    have ep2 : pP2 = 0 := by
      rw [I2.2.2.2.2.2, hE2 2 (by omega), List.append_nil, gx_D2z I2 hE2]
      rfl
    rw [ep2, gh_na0] at hu
    exact kk u hu
end
end
section
/-! the component's minor collection -/
section
variable {NL TL TA RT TS rc pF pR pP : Int32} {me ba ot tp ob rt rs rp fw fr sc cp ss : Nat → Int32} {ids : List Nat} {ag nr nd : Nat → Nat} {rf : Nat → Nat → Nat} {da : Nat → Nat → Int32} {ro : Nat → Nat} {A c0 B pg bs os : Nat → Nat} {N T P K la c : Nat} {D E L : Nat → List Nat} {st : Nat → Int32}
theorem gx_L2P (wf : gh_WF N T P K ids ag nr nd rf ro la) (k : gx_K P ids ag nr nd rf da ro L A bs os c me ba ot tp ob rt rs rp) {x : Nat} : x ∈ L 2 ↔ x ∈ ids ∧ P ≤ ag x := by
  have hP : 1 ≤ P := wf.1.2.2.2.2.1
  rw [(k.2.2.1 2 (by omega)).2.1 x, gh_sp2]
  constructor
  · rintro ⟨h1, h2, h3⟩
    exact ⟨h1, h3⟩
  · rintro ⟨h1, h2⟩
    exact ⟨h1, by omega, h2⟩
/-- the referents of crossing slots -/
theorem gx_cr (wf : gh_WF N T P K ids ag nr nd rf ro la) (k : gx_K P ids ag nr nd rf da ro L A bs os c me ba ot tp ob rt rs rp) {x j : Nat} (hx : x ∈ ids) (hj : j < nr x) :
    gx_yI (me (A x + 2 + j)) ↔ gh_elM P ids ag (rf x j) := by
  rw [(k.2.2.2.1 x hx).2.2.1 j hj]
  rcases wf.2.2.2.1 x j hx hj with e | e
  · rw [e, k.1, gx_yI_nI (by omega)]
    constructor
    · intro h; exact absurd rfl h.1
    · intro h
      have := (wf.2.2.1 0 h.1).1
      omega
  · have h := gx_in wf k e
    have hw := gh_w2 (nr := nr) (nd := nd) (x := rf x j)
    rw [gx_yI_nI (by omega)]
    constructor
    · intro c; exact ⟨e, h.2.2.mp c.2⟩
    · intro c; exact ⟨by omega, h.2.2.mpr c.2⟩
/-- the slots of two objects of ids are apart -/
theorem gx_slot (wf : gh_WF N T P K ids ag nr nd rf ro la) (k : gx_K P ids ag nr nd rf da ro L A bs os c me ba ot tp ob rt rs rp) {x y i j : Nat} (hx : x ∈ ids) (hy : y ∈ ids) (hi : i < gh_w nr nd x) (hj : j < gh_w nr nd y) (e : A x + i = A y + j) : x = y ∧ i = j := by
  by_cases z : x = y
  · subst z; exact ⟨rfl, by omega⟩
  · have := gx_dis wf k hx hy z
    omega
/-- the minor pass -/
theorem gx_passM {post : SX → Prop} (wf : gh_WF N T P K ids ag nr nd rf ro la) (k : gx_K P ids ag nr nd rf da ro L A bs os c me ba ot tp ob rt rs rp)
    (kk : ∀ D' E' B' pg' me' fw' fr' sc' cp' pP', gx_K P ids ag nr nd rf da ro L A bs os c me' ba ot tp ob rt rs rp →
      gx_I ids ag nr nd rf da A P (gh_elM P ids ag) (gh_RM P ids ag nr rf ro) (gx_tbM (gh_w nr nd) L bs os) (gh_na P ag 1) (fun sp => if sp = 2 then (L 2).length else 0) D' E' B' pg' 0 me' fw' fr' sc' cp' pP' →
      (∀ s, s < 3 → E' s = []) → (∀ x, gh_RM P ids ag nr rf ro x ↔ gx_inC D' E' x) → post (nI N, nI T, nI P, nI K, TS, nI c, 0, 1, pP', me', ba, ot, tp, ob, rt, rs, rp, fw', fr', sc', cp', ss)) :
    wpX_tracePass post (nI N, nI T, nI P, nI K, TS, nI c, pF, pR, pP, me, ba, ot, tp, ob, rt, rs, rp, fw, fr, sc, cp, ss) 0 1 := by
  have C := gx_C_minor wf k
  obtain ⟨s, p, hr, hQ⟩ := k.2.2.2.2.2
  have hsl : ∀ i, i < c → ∃ x j, x ∈ ids ∧ P ≤ ag x ∧ j < nr x ∧ rs i = nI (A x + 2 + j) ∧ s i = A x + 2 + j := by
    intro i hi
    have h := hr.2.1 i hi
    obtain ⟨x, hx, j, hj, e, hy⟩ := (hQ (s i)).mpr ⟨h.2.1, by omega⟩
    have hx' := (gx_L2P wf k).mp hx
    exact ⟨x, j, hx'.1, hx'.2, hj, by rw [h.1, e], e⟩
  have hch : ∃ sx sj : Nat → Nat, ∀ i, i < c → sx i ∈ ids ∧ P ≤ ag (sx i) ∧ sj i < nr (sx i) ∧ rs i = nI (A (sx i) + 2 + sj i) ∧ s i = A (sx i) + 2 + sj i := by
    have h1 : ∀ i, ∃ xj : Nat × Nat, i < c → xj.1 ∈ ids ∧ P ≤ ag xj.1 ∧ xj.2 < nr xj.1 ∧ rs i = nI (A xj.1 + 2 + xj.2) ∧ s i = A xj.1 + 2 + xj.2 := by
      intro i
      by_cases z : i < c
      · obtain ⟨x, j, h⟩ := hsl i z
        exact ⟨(x, j), fun _ => h⟩
      · exact ⟨(0, 0), fun h => absurd h z⟩
    obtain ⟨f, hf⟩ := Classical.skolem.mp h1
    exact ⟨fun i => (f i).1, fun i => (f i).2, hf⟩
  obtain ⟨sx, sj, hS⟩ := hch
  refine gx_tracePass (K := K) (c := c) (sx := sx) (sj := sj) (c0 := fun sp => if sp = 2 then (L 2).length else 0) C ⟨rfl, Or.inl ⟨rfl, fun x hx => ?_⟩, 1, by omega, rfl, fun x _ => rfl⟩ (gh_len80 wf) (Or.inl rfl) k.2.2.2.1 ?_ ?_ wf.1.2.2.2.2.2.2.2.1 k.2.2.2.2.1 wf.2.2.2.2.1 (fun r e => gh_rch_sd (Or.inl ⟨r, rfl⟩) e) hr.1 ?_ (fun D' E' B' pg' me' fw' fr' sc' cp' pP' I' hE hro hrm => ?_)
  · exact ⟨fun h => (gx_in wf k hx).2.2.mpr h.2, fun h => ⟨hx, (gx_in wf k hx).2.2.mp h⟩⟩
  · intro s hs
    unfold gx_tbM
    by_cases z : s = 2
    · subst z
      rw [if_pos ⟨rfl, rfl⟩, if_pos rfl]
      exact (k.2.2.1 2 (by omega)).2.2.2.2.2.1
    · rw [if_neg (fun d => z d.2), if_neg z]
      exact (k.2.2.1 s hs).2.2.2.2.1
  · intro s hs
    by_cases z : s = 2
    · subst z
      rw [if_pos ⟨rfl, rfl⟩]
      exact (k.2.2.1 2 (by omega)).2.2.2.2.2.2
    · rw [if_neg (fun d => z d.2), if_neg z]
      rfl
  · intro _ i hi
    obtain ⟨h1, h2, h3, h4, h5⟩ := hS i hi
    exact ⟨h1, h3, h4, fun e => gh_rch_sd (Or.inr ⟨sx i, sj i, h1, h2, h3, rfl⟩) e⟩
  · refine kk D' E' B' pg' me' fw' fr' sc' cp' pP' (gx_K_me k I'.2.2.1) I' hE (fun x => ⟨fun h => ?_, fun h => (gx_inC_el I' h).2⟩)
    refine h (gx_inC D' E') ?_ (fun y i hy hi e => gx_closed I' hE hy hi e)
    rintro y (⟨r, rfl⟩ | ⟨x, j, hx, hp, hj, rfl⟩) e
    · by_cases z : r < K
      · exact hro r z e
      · have h0 := wf.2.2.2.2.2.1 r (by omega)
        rw [h0] at e
        have := (wf.2.2.1 0 e.1).1
        omega
    · have hb := wf.2.2.1 x hx
      have hyI := (gx_cr wf k hx hj).mpr e
      have hw : gh_w nr nd x = 2 + nr x + nd x := rfl
      have hin := gx_in wf k hx
      obtain ⟨q1, q2⟩ := (hQ (A x + 2 + j)).mp ⟨x, (gx_L2P wf k).mpr ⟨hx, hp⟩, j, hj, rfl, hyI⟩
      obtain ⟨r1, r2, r3⟩ := hr.2.2 _ q1
      have r3' := r3 q2
      obtain ⟨h1, h2, h3, h4, h5⟩ := hS (p (A x + 2 + j) - 1) (by omega)
      rw [r3'] at h5
      have hw' : gh_w nr nd (sx (p (A x + 2 + j) - 1)) = 2 + nr (sx (p (A x + 2 + j) - 1)) + nd (sx (p (A x + 2 + j) - 1)) := rfl
      have hs := gx_slot wf k (i := 2 + j) (j := 2 + sj (p (A x + 2 + j) - 1)) hx h1 (by omega) (by omega) (by omega)
      have hh := hrm rfl (p (A x + 2 + j) - 1) (by omega)
      have ej : sj (p (A x + 2 + j) - 1) = j := by omega
      rw [ej, ← hs.1] at hh
      exact hh e
theorem gx_minorCollection {post : Int32 → SX → Prop} (wf : gh_WF N T P K ids ag nr nd rf ro la) (h : gx_R N T P K ids ag nr nd rf da ro st (NL, TL, TA, RT, TS, rc, pF, pR, pP, me, ba, ot, tp, ob, rt, rs, rp, fw, fr, sc, cp, ss))
    (kk : ∀ u, gx_R N T P K (gh_minor T P ids ag nr nd rf ro st).2.1 (gh_minor T P ids ag nr nd rf ro st).2.2.1 nr nd rf da ro (gh_minor T P ids ag nr nd rf ro st).2.2.2 u → post (gh_minor T P ids ag nr nd rf ro st).1 u) : wpX_minorCollection post (NL, TL, TA, RT, TS, rc, pF, pR, pP, me, ba, ot, tp, ob, rt, rs, rp, fw, fr, sc, cp, ss) := by
  obtain ⟨⟨e1, e2, e3, e4⟩, e5, L, A, bs, os, c, e6, k⟩ := h
  subst e1 e2 e3 e4 e5 e6
  have hX : ∀ x, x ∈ ids → ag x ≤ P := fun x hx => (wf.2.2.1 x hx).2.2.2.2
  have hP1 : 1 ≤ P := wf.1.2.2.2.2.1
  have hP3 : P ≤ 3 := wf.1.2.2.2.2.2.1
  have hK8 : K ≤ 8 := wf.1.2.2.2.2.2.2.2.1
  have hN := wf.2.1
  have hbd := gh_bd_of wf
  unfold wpX_minorCollection
  refine gx_passM wf k (fun D E B pg me' fw' fr' sc' cp' pP' k' I hE hR => ?_)
  have C := gx_C_minor wf k
  have g0 := gx_end_sp I hE (sp := 0) (by omega)
  have g1 := gx_end_sp I hE (sp := 1) (by omega)
  have g2 := gx_end_sp I hE (sp := 2) (by omega)
  have o0 := k'.2.2.1 0 (by omega)
  have o1 := k'.2.2.1 1 (by omega)
  have o2 := k'.2.2.1 2 (by omega)
  have hw := gx_D2w I hE hR (fun x hx => hx.1) hN hX hP1 rfl
  have w0 : gh_mw (gh_RM P ids ag nr rf ro) ag (gh_w nr nd) ids P = 0 := by
    unfold gh_mw
    have e0 : ∀ l : List Nat, gh_S (fun _ => 0) l = 0 := by
      intro l
      induction l with
      | nil => rfl
      | cons y l ih => simp only [gh_S, ih]
    refine Eq.trans (gh_S_congr (g := fun _ => 0) (fun x _ => ?_)) (e0 ids)
    rw [if_neg]
    intro d
    have hel : gh_elM P ids ag x := gh_rch_el (gh_bl_iff.mp d.1)
    have := hel.2
    omega
  rw [w0, Nat.zero_add] at hw
  have hL2 : gh_S (gh_w nr nd) (L 2) = gh_as ag (gh_w nr nd) ids P := by
    rw [gx_Lsum hN k (by omega), gh_used2 hbd]
  have h160 := gh_tot160 wf
  have w2 : gh_mw (gh_RM P ids ag nr rf ro) ag (gh_w nr nd) ids (P - 1) ≤ gh_S (gh_w nr nd) ids := gh_mw_le
  have hT64 : T ≤ 64 := wf.1.2.2.2.1
  have hTs : gh_as ag (gh_w nr nd) ids P ≤ T := wf.2.2.2.2.2.2.2
  have etb : gx_tbM (gh_w nr nd) L bs os 2 = bs 2 + gh_S (gh_w nr nd) (L 2) := rfl
  have ep : pP' = nI (gh_mw (gh_RM P ids ag nr rf ro) ag (gh_w nr nd) ids (P - 1)) := by
    rw [I.2.2.2.2.2, hE 2 (by omega), List.append_nil, hw.2]
  have ef : fr' 2 - ba 2 = nI (gh_as ag (gh_w nr nd) ids P + gh_mw (gh_RM P ids ag nr rf ro) ag (gh_w nr nd) ids (P - 1)) := by
    rw [g2.2.2.1, o2.2.2.2.1, pk_sub (by omega), etb, hw.1, hL2]
    congr 1
    omega
  refine pk_le (gh_as ag (gh_w nr nd) ids P + gh_mw (gh_RM P ids ag nr rf ro) ag (gh_w nr nd) ids (P - 1)) T (fun hle => ?_) (fun hlt => ?_) ef rfl
  · rw [gh_minor_t hle] at kk
    -- what is kept, and where
    have hel : ∀ x, gx_inC D E x → x ∈ ids ∧ ag x < P := fun x hx => (gx_inC_el I hx).1
    have hkp : ∀ x, x ∈ gh_kp (gh_KM P ids ag nr rf ro) ids ↔ gx_inC D E x ∨ x ∈ L 2 := by
      intro x
      rw [gh_kp_mem, gx_L2P wf k]
      constructor
      · rintro ⟨h1, h2 | h2⟩
        · exact Or.inl ((hR x).mp h2)
        · exact Or.inr ⟨h1, h2⟩
      · rintro (h1 | h1)
        · exact ⟨(hel x h1).1, Or.inl ((hR x).mpr h1)⟩
        · exact ⟨h1.1, Or.inr h1.2⟩
    have hnL : ∀ x, x ∈ L 2 → ¬ gx_inC D E x := fun x hx d => by
      have h1 := (gx_L2P wf k).mp hx
      have h2 := hel x d
      omega
    have hA0 : gx_A' D E B A 0 = 0 := by
      rw [gx_A'f]
      · exact k.1
      · intro d
        have := C.2.1 0 (hel 0 d).1
        omega
    have hfwd : ∀ r, r < K → (fw' (A (ro r)) = 0 ∧ gx_A' D E B A (ro r) = A (ro r)) ∨ (fw' (A (ro r)) ≠ 0 ∧ fw' (A (ro r)) = nI (gx_A' D E B A (ro r))) := by
      intro r hr
      by_cases z : gx_inC D E (ro r)
      · have h8 := gx_B8 C I z
        have hf := (I.2.1.2 _ (hel _ z).1).1 z
        rw [gx_A't z, hf]
        exact Or.inr ⟨nI_ne0 (by omega) (by omega), rfl⟩
      · rw [gx_A'f z]
        refine Or.inl ⟨?_, rfl⟩
        rcases wf.2.2.2.2.1 r with e | e
        · rw [e, k.1]; exact I.2.1.1
        · exact (I.2.1.2 _ e).2 z
    have hr392 : ∀ r, r < K → A (ro r) < 392 := by
      intro r hr
      rcases wf.2.2.2.2.1 r with e | e
      · rw [e, k.1]; omega
      · have := (gx_in wf k e).2.1
        have hw := gh_w2 (nr := nr) (nd := nd) (x := ro r)
        omega
    -- crossing slots
    have hcr : ∀ a, gx_cross (L 2) A nr me' a → a < 392 ∧ ∃ x j, x ∈ L 2 ∧ j < nr x ∧ a = A x + 2 + j ∧ gx_inC D E (rf x j) := by
      rintro a ⟨x, hx, j, hj, e, hy⟩
      have hx' := (gx_L2P wf k).mp hx
      have hin := gx_in wf k hx'.1
      have hw : gh_w nr nd x = 2 + nr x + nd x := rfl
      subst e
      refine ⟨by omega, x, j, hx, hj, rfl, ?_⟩
      have he := (gx_cr wf k' hx'.1 hj).mp hy
      exact (hR _).mp (gh_rch_sd (Or.inr ⟨x, j, hx'.1, hx'.2, hj, rfl⟩) he)
    have hQ2 : ∀ a, gx_cross (L 2) A nr me' a → a < 392 ∧ ∃ v n, me' a = nI v ∧ v < 392 ∧ fw' v = nI n ∧ n < 392 := by
      intro a ha
      obtain ⟨h1, x, j, hx, hj, e, hc⟩ := hcr a ha
      have hx' := (gx_L2P wf k).mp hx
      have hb := gx_in wf k (hel _ hc).1
      have h8 := gx_B8 C I hc
      have hw2 := gh_w2 (nr := nr) (nd := nd) (x := rf x j)
      subst e
      exact ⟨h1, _, _, (k'.2.2.2.1 x hx'.1).2.2.1 j hj, by omega, (I.2.1.2 _ (hel _ hc).1).1 hc, by omega⟩
    refine gx_totalWords (bs := bs) (L := L) (w := gh_w nr nd) (fun sp hs => ⟨(k'.2.2.1 sp hs).2.2.2.1, (k'.2.2.1 sp hs).2.2.2.2.2.1⟩) (nm_e (nm_e ?_))
    refine gx_flip (sp := 0) (by omega) ?_
    refine gx_flip (sp := 1) (by omega) ?_
    refine gx_adopt (sp := 2) (by omega) ?_
    refine gx_forwardRoots hK8 (A0 := A) (A1 := gx_A' D E B A) (ro := ro) hr392 hfwd (fun r hr => k'.2.2.2.2.1 r (by omega)) (fun q hq => ?_)
    refine gx_forwardRemembered k'.2.2.2.2.2 hQ2 (fun me2 c2 rs2 rp2 hm1 hm2 hrem2 => ?_)
    -- the memory behind it
    have hmB : ∀ x, gx_inC D E x → ∀ a, B x ≤ a → a < B x + gh_w nr nd x → me2 a = me' a := by
      intro x hx a ha1 ha2
      have h8 := gx_B8 C I hx
      refine hm2 a (by omega) (fun hq => ?_)
      obtain ⟨_, z, j, hz, hj, e, _⟩ := hcr a hq
      have := gx_AB C I ((gx_L2P wf k).mp hz).1 hx
      have hw : gh_w nr nd z = 2 + nr z + nd z := rfl
      omega
    have hmA : ∀ x, x ∈ L 2 → gx_obj ag nr nd rf da me2 (gx_A' D E B A) x := by
      intro x hx
      have hx' := (gx_L2P wf k).mp hx
      have hin := gx_in wf k hx'.1
      have hw : gh_w nr nd x = 2 + nr x + nd x := rfl
      have hoff : ∀ i, i < gh_w nr nd x → (i < 2 ∨ 2 + nr x ≤ i) → me2 (A x + i) = me' (A x + i) := by
        intro i hi hi2
        refine hm2 _ (by omega) (fun hq => ?_)
        obtain ⟨_, z, j, hz, hj, e, _⟩ := hcr _ hq
        have hwz : gh_w nr nd z = 2 + nr z + nd z := rfl
        have := gx_slot wf k (i := i) (j := 2 + j) hx'.1 ((gx_L2P wf k).mp hz).1 hi (by omega) (by omega)
        rw [← this.1] at hj
        omega
      obtain ⟨q1, q2, q3, q4⟩ := k'.2.2.2.1 x hx'.1
      unfold gx_obj
      rw [gx_A'f (hnL x hx)]
      refine ⟨?_, ?_, fun i hi => ?_, fun i hi => ?_⟩
      · have := hoff 0 (by omega) (by omega)
        rw [Nat.add_zero] at this
        rw [this]; exact q1
      · rw [hoff 1 (by omega) (by omega)]; exact q2
      · by_cases hq : gx_cross (L 2) A nr me' (A x + 2 + i)
        · rw [hm1 _ (by omega) hq, q3 i hi]
          obtain ⟨_, z, j, hz, hj, e, hc⟩ := hcr _ hq
          have hwz : gh_w nr nd z = 2 + nr z + nd z := rfl
          have hs := gx_slot wf k (i := 2 + i) (j := 2 + j) hx'.1 ((gx_L2P wf k).mp hz).1 (by omega) (by omega) (by omega)
          have ej : j = i := by omega
          rw [← hs.1, ej] at hc
          have hin2 := gx_in wf k (hel _ hc).1
          have hw2 := gh_w2 (nr := nr) (nd := nd) (x := rf x i)
          rw [gx_A't hc, nI_clamp (by omega)]
          exact (I.2.1.2 _ (hel _ hc).1).1 hc
        · rw [hm2 _ (by omega) hq, q3 i hi]
          rw [gx_A'f]
          intro hc
          apply hq
          refine ⟨x, hx, i, hi, rfl, (gx_cr wf k' hx'.1 hi).mpr (hel _ hc)⟩
      · have := hoff (2 + nr x + i) (by omega) (by omega)
        rw [← Nat.add_assoc, ← Nat.add_assoc] at this
        rw [this]; exact q4 i hi
    have hx8 : ∀ x, x ∈ D 2 → gx_dsc me2 (gx_A' D E B A x) (nr x) (nd x) (gh_na P ag 1 x) ∧ bs 2 ≤ gx_A' D E B A x ∧ gx_A' D E B A x + 2 + nr x ≤ bs 2 + 96 ∧ gx_A' D E B A x + 2 + nr x ≤ 392 := by
      intro x hx
      have hc := ((gx_mem_D I hE (sp := 2) (by omega)).mp hx).1
      have hb := C.2.1 x (hel x hc).1
      have h8 := gx_B8 C I hc
      have hn := I.2.2.2.1 x hc
      have hw : gh_w nr nd x = 2 + nr x + nd x := rfl
      have hl := gh_lay_in _ _ x g2.2.1 hx
      have hcap := C.2.2.2.2.2.2.2.1 2 (D 2) (by omega) g2.1 (fun y hy => ⟨hel _ ((gx_mem_D I hE (sp := 2) (by omega)).mp hy).1, ((gx_mem_D I hE (sp := 2) (by omega)).mp hy).2⟩)
      have e2 : gx_teM bs os 2 = bs 2 + 96 := rfl
      rw [gx_A't hc]
      refine ⟨⟨by omega, by omega, by omega, by omega, ?_⟩, by omega, by omega, by omega⟩
      rw [hmB x hc _ (by omega) (by omega)]
      exact hn.2.1
    have hlen : (D 2).length < 2 ^ 31 := by
      have h1 := gx_Dlen C I
      have h2 := gh_len80 wf
      omega
    have hlo : ∀ b, gx_cross (L 2) A nr me' b ∧ gx_yI (me2 b) → bs 2 ≤ b ∧ b < bs 2 + 96 := by
      rintro b ⟨hb, _⟩
      obtain ⟨_, z, j, hz, hj, e, _⟩ := hcr _ hb
      have hl := gh_lay_in _ _ z o2.2.2.1 hz
      have hwz : gh_w nr nd z = 2 + nr z + nd z := rfl
      omega
    refine gx_rememberFields' (A := gx_A' D E B A) (gg := gh_na P ag 1) (lo := bs 2) (b := bs 2 + gh_S (gh_w nr nd) (L 2)) (l := D 2) o2.2.2.2.2.2.1 ?_ hlen (gx_lay' I hE (sp := 2) (by omega)) hx8 hlo hrem2 (fun c3 rs3 rp3 hrem3 => ?_)
    · show cp' 2 - ob 2 = nI (D 2).length
      rw [g2.2.2.2, o2.2.2.2.2.2.2, if_pos rfl, pk_sub (by omega), Nat.add_sub_cancel_left]
    · -- the new heap
      have hL' : ∀ sp, sp < 3 → (if sp = 2 then L 2 ++ D 2 else D sp).Nodup ∧ (∀ x, x ∈ (if sp = 2 then L 2 ++ D 2 else D sp) ↔ x ∈ gh_kp (gh_KM P ids ag nr rf ro) ids ∧ gh_sp P (gh_up P ag x) = sp) := by
        intro sp hs
        have hup : ∀ x, x ∈ L 2 → gh_sp P (gh_up P ag x) = 2 := by
          intro x hx
          have h1 := (gx_L2P wf k).mp hx
          have e : gh_up P ag x = ag x := if_neg (by omega)
          rw [e]
          exact gh_sp2.mpr ⟨by omega, h1.2⟩
        by_cases z : sp = 2
        · subst z
          rw [if_pos rfl]
          refine ⟨?_, fun x => ?_⟩
          · rw [List.nodup_append]
            refine ⟨o2.1, g2.1, fun a ha b hb e => ?_⟩
            subst e
            exact hnL a ha ((gx_mem_D I hE (sp := 2) (by omega)).mp hb).1
          · rw [List.mem_append, hkp]
            constructor
            · rintro (h1 | h1)
              · exact ⟨Or.inr h1, hup x h1⟩
              · have h2 := (gx_mem_D I hE (sp := 2) (by omega)).mp h1
                exact ⟨Or.inl h2.1, h2.2⟩
            · rintro ⟨h1 | h1, h2⟩
              · exact Or.inr ((gx_mem_D I hE (sp := 2) (by omega)).mpr ⟨h1, h2⟩)
              · exact Or.inl h1
        · rw [if_neg z]
          refine ⟨(gx_end_sp I hE hs).1, fun x => ?_⟩
          rw [hkp]
          constructor
          · intro h1
            have h2 := (gx_mem_D I hE hs).mp h1
            exact ⟨Or.inl h2.1, h2.2⟩
          · rintro ⟨h1 | h1, h2⟩
            · exact (gx_mem_D I hE hs).mpr ⟨h1, h2⟩
            · exact absurd ((hup x h1).symm.trans h2).symm z
      have hsum : gh_S (gh_w nr nd) (D 0) + gh_S (gh_w nr nd) (D 1) + gh_S (gh_w nr nd) (L 2 ++ D 2) = gh_S (gh_w nr nd) (gh_kp (gh_KM P ids ag nr rf ro) ids) := by
        have hl : ∀ sp, sp < 3 → gh_S (gh_w nr nd) (if sp = 2 then L 2 ++ D 2 else D sp) = gh_S (fun x => if gh_sp P (gh_up P ag x) = sp then gh_w nr nd x else 0) (gh_kp (gh_KM P ids ag nr rf ro) ids) := by
          intro sp hs
          refine gh_S_eq (hL' sp hs).1 (gh_kp_nodup hN) (fun x hx => ?_) (fun x hx hn => ?_)
          · have h := ((hL' sp hs).2 x).mp hx
            rw [if_pos h.2]
            exact ⟨h.1, rfl⟩
          · rw [if_neg]
            intro e
            exact hn (((hL' sp hs).2 x).mpr ⟨hx, e⟩)
        have l0 := hl 0 (by omega)
        have l1 := hl 1 (by omega)
        have l2 := hl 2 (by omega)
        rw [if_neg (by omega)] at l0 l1
        rw [if_pos rfl] at l2
        rw [l0, l1, l2, ← gh_S_add, ← gh_S_add]
        apply gh_S_congr
        intro x _
        have h3 : gh_sp P (gh_up P ag x) < 3 := gh_sp3
        have : gh_sp P (gh_up P ag x) = 0 ∨ gh_sp P (gh_up P ag x) = 1 ∨ gh_sp P (gh_up P ag x) = 2 := by omega
        rcases this with e | e | e
        · simp [e]
        · simp [e]
        · simp [e]
      have htot := gx_Ltot hN k (gh_w nr nd)
      have hdw := gh_kp_dw (R := gh_KM P ids ag nr rf ro) (w := gh_w nr nd) (ids := ids)
      have hfin : ∀ sp, sp < 3 → upd (upd ba 0 (ot 0)) 1 (upd ot 0 (ba 0) 1) sp = nI ((fun s => if s = 2 then bs 2 else os s) sp) ∧ upd (upd (upd tp 0 (fr' 0)) 1 (fr' 1)) 2 (fr' 2) sp = nI ((fun s => if s = 2 then bs 2 else os s) sp + gh_S (gh_w nr nd) ((fun s => if s = 2 then L 2 ++ D 2 else D s) sp)) := by
        intro sp hs
        have : sp = 0 ∨ sp = 1 ∨ sp = 2 := by omega
        rcases this with e | e | e <;> subst e
        · exact ⟨o0.2.2.2.2.1, g0.2.2.1⟩
        · exact ⟨o1.2.2.2.2.1, g1.2.2.1⟩
        · refine ⟨o2.2.2.2.1, g2.2.2.1.trans ?_⟩
          rw [etb]
          dsimp only
          rw [if_pos rfl, if_pos rfl, gh_S_app]
          congr 1
          omega
      have hKK : gx_K P (gh_kp (gh_KM P ids ag nr rf ro) ids) (gh_up P ag) nr nd rf da ro (fun s => if s = 2 then L 2 ++ D 2 else D s) (gx_A' D E B A) (fun s => if s = 2 then bs 2 else os s) (fun s => if s = 2 then os 2 else bs s) c3 me2 (upd (upd ba 0 (ot 0)) 1 (upd ot 0 (ba 0) 1)) (upd (upd ot 0 (ba 0)) 1 (upd ba 0 (ot 0) 1)) (upd (upd (upd tp 0 (fr' 0)) 1 (fr' 1)) 2 (fr' 2)) (upd (upd (upd ob 0 (cp' 0)) 1 (cp' 1)) 2 (cp' 2)) q rs3 rp3 := by
        refine ⟨hA0, ?_, ?_, ?_, ?_, ?_⟩
        · have hh := k.2.1
          unfold gx_half at hh ⊢
          simp only [show ¬ (0 : Nat) = 2 by omega, show ¬ (1 : Nat) = 2 by omega, if_true, if_false]
          omega
        · intro sp hs
          refine ⟨(hL' sp hs).1, (hL' sp hs).2, ?_, (hfin sp hs).1, ?_, (hfin sp hs).2, ?_⟩
          · have : sp = 0 ∨ sp = 1 ∨ sp = 2 := by omega
            rcases this with e | e | e <;> subst e
            · exact gx_lay' I hE (sp := 0) (by omega)
            · exact gx_lay' I hE (sp := 1) (by omega)
            · show gh_lay (gh_w nr nd) (gx_A' D E B A) (bs 2) (L 2 ++ D 2)
              rw [gh_lay_app]
              exact ⟨gh_lay_congr _ _ (fun x hx => gx_A'f (hnL x hx)) o2.2.2.1, gx_lay' I hE (sp := 2) (by omega)⟩
          · have : sp = 0 ∨ sp = 1 ∨ sp = 2 := by omega
            rcases this with e | e | e <;> subst e
            · exact o0.2.2.2.1
            · exact o1.2.2.2.1
            · exact o2.2.2.2.2.1
          · have : sp = 0 ∨ sp = 1 ∨ sp = 2 := by omega
            rcases this with e | e | e <;> subst e
            · exact g0.2.2.2.trans (by dsimp only; rw [if_neg (by omega), if_neg (by omega), Nat.zero_add])
            · exact g1.2.2.2.trans (by dsimp only; rw [if_neg (by omega), if_neg (by omega), Nat.zero_add])
            · exact g2.2.2.2.trans (by dsimp only; rw [if_pos rfl, if_pos rfl, List.length_append])
        · intro x hx
          rcases (hkp x).mp hx with h1 | h1
          · refine gx_obj_fr ?_ (gx_obj_new I hE h1)
            rw [gx_A't h1]
            exact hmB x h1
          · have h2 := hmA x h1
            have h3 := (gx_L2P wf k).mp h1
            have e : gh_up P ag x = ag x := if_neg (by omega)
            unfold gx_obj at h2 ⊢
            rw [e]
            exact h2
        · intro r hr
          rw [hq r hr]
          by_cases z : r < K
          · rw [if_pos z]
          · have e0 := wf.2.2.2.2.2.1 r (by omega)
            rw [if_neg z, k.2.2.2.2.1 r hr, e0, hA0, k.1]
        · refine gx_rem_congr (fun b => ?_) hrem3
          unfold gx_cross
          dsimp only
          rw [if_pos rfl]
          constructor
          · rintro (⟨⟨x, hx, j, hj, e, _⟩, hy⟩ | ⟨x, hx, j, hj, e, hy⟩)
            · exact ⟨x, List.mem_append.mpr (Or.inl hx), j, hj, by rw [gx_A'f (hnL x hx)]; exact e, hy⟩
            · exact ⟨x, List.mem_append.mpr (Or.inr hx), j, hj, e, hy⟩
          · rintro ⟨x, hx, j, hj, e, hy⟩
            rcases List.mem_append.mp hx with h1 | h1
            · rw [gx_A'f (hnL x h1)] at e
              refine Or.inl ⟨?_, hy⟩
              by_cases hq0 : gx_cross (L 2) A nr me' b
              · exact hq0
              · have hx' := (gx_L2P wf k).mp h1
                have hin := gx_in wf k hx'.1
                have hw : gh_w nr nd x = 2 + nr x + nd x := rfl
                rw [hm2 b (by omega) hq0] at hy
                exact ⟨x, h1, j, hj, e, hy⟩
            · exact Or.inr ⟨x, h1, j, hj, e, hy⟩
      refine nm_e (gx_finish (w := gh_w nr nd) (bs := fun s => if s = 2 then bs 2 else os s) (L := fun s => if s = 2 then L 2 ++ D 2 else D s) hfin ?_ (kk _ ⟨⟨rfl, rfl, rfl, rfl⟩, ?_, _, _, _, _, c3, rfl, hKK⟩))
      · show gh_S (gh_w nr nd) (D 0) + gh_S (gh_w nr nd) (D 1) + gh_S (gh_w nr nd) (L 2 ++ D 2) ≤ _
        omega
      · have e : gh_S (gh_w nr nd) (L 0) + gh_S (gh_w nr nd) (L 1) + gh_S (gh_w nr nd) (L 2) - (gh_S (gh_w nr nd) (D 0) + gh_S (gh_w nr nd) (D 1) + gh_S (gh_w nr nd) (L 2 ++ D 2)) = gh_dw (gh_KM P ids ag nr rf ro) (gh_w nr nd) ids := by omega
        show upd (upd (upd _ 0 1) 1 (nI (gh_S (gh_w nr nd) (L 0) + gh_S (gh_w nr nd) (L 1) + gh_S (gh_w nr nd) (L 2) - (gh_S (gh_w nr nd) (D 0) + gh_S (gh_w nr nd) (D 1) + gh_S (gh_w nr nd) (L 2 ++ D 2))))) 2 pP' = _
        rw [e, ep]
  · rw [gh_minor_f (by omega)] at kk
    exact nm_e (gx_fullCollection wf (st := upd ss 7 (ss 7 + 1)) ⟨⟨rfl, rfl, rfl, rfl⟩, rfl, L, A, bs, os, c, rfl, k'⟩ kk)
end
end
section
/-! the component: allocation and the mutator -/
section
variable {NL TL TA RT TS rc pF pR pP : Int32} {me ba ot tp ob rt rs rp fw fr sc cp ss : Nat → Int32} {ids : List Nat} {ag nr nd : Nat → Nat} {rf : Nat → Nat → Nat} {da : Nat → Nat → Int32} {ro : Nat → Nat} {A bs os : Nat → Nat} {N T P K la c : Nat} {L : Nat → List Nat} {st : Nat → Int32}
theorem gx_inR1 {post : Int32 → Prop} {j : Nat} (hK : K ≤ 8) (hj : j < K) (k : post 1) : wpX_inRange post (NL, TL, TA, nI K, TS, rc, pF, pR, pP, me, ba, ot, tp, ob, rt, rs, rp, fw, fr, sc, cp, ss) (nI j) := by
  unfold wpX_inRange
  exact br_f (nI_pos (by omega)) (br_f (nI_ge hj (by omega)) k)
theorem gx_inR0 {post : Int32 → Prop} {p0 : Int32} (hK : K ≤ 8) (h : ∀ j, j < K → p0 ≠ nI j) (k : post 0) : wpX_inRange post (NL, TL, TA, nI K, TS, rc, pF, pR, pP, me, ba, ot, tp, ob, rt, rs, rp, fw, fr, sc, cp, ss) p0 :=
  gx_inRange hK rfl (fun j hj e => absurd e (h j hj)) (fun _ => k)
/-- the common tests of the allocations -/
def gh_rfs (K v1 v2 v3 s3 : Int32) : Int32 :=
  if v1 < 0 then -1 else if K ≤ v1 then -1 else if v2 < 0 then -2 else if 3 < v2 then -2 else if v3 < 0 then -2 else if v3 ≤ 2 then (if s3 = 1000000 then -6 else 0) else -2
theorem gx_allocRefusal {post : Int32 → Prop} {v1 v2 v3 : Int32} (k : post (gh_rfs RT v1 v2 v3 (ss 3))) : wpX_allocRefusal post (NL, TL, TA, RT, TS, rc, pF, pR, pP, me, ba, ot, tp, ob, rt, rs, rp, fw, fr, sc, cp, ss) v1 v2 v3 := by
  unfold wpX_allocRefusal wpX_inRange
  unfold gh_rfs at k
  by_cases h1 : v1 < 0
  · rw [if_pos h1] at k
    exact br_t h1 (br_t rfl k)
  · rw [if_neg h1] at k
    refine br_f h1 ?_
    by_cases h2 : RT ≤ v1
    · rw [if_pos h2] at k
      exact br_t h2 (br_t rfl k)
    · rw [if_neg h2] at k
      refine br_f h2 (br_f (by decide) ?_)
      by_cases h3 : v2 < 0
      · rw [if_pos h3] at k
        exact br_t h3 k
      · rw [if_neg h3] at k
        refine br_f h3 ?_
        by_cases h4 : 3 < v2
        · rw [if_pos h4] at k
          exact br_t h4 k
        · rw [if_neg h4] at k
          refine br_f h4 ?_
          by_cases h5 : v3 < 0
          · rw [if_pos h5] at k
            exact br_t h5 k
          · rw [if_neg h5] at k
            refine br_f h5 ?_
            by_cases h6 : v3 ≤ 2
            · rw [if_pos h6] at k
              refine br_t h6 ?_
              by_cases h7 : ss 3 = 1000000
              · rw [if_pos h7] at k
                exact br_t h7 k
              · rw [if_neg h7] at k
                exact br_f h7 k
            · rw [if_neg h6] at k
              exact br_f h6 k
theorem gh_rfs0 {v1 v2 v3 s3 : Int32} (hK : K ≤ 8) (h : gh_rfs (nI K) v1 v2 v3 s3 = 0) : ∃ i r d, i < K ∧ r ≤ 3 ∧ d ≤ 2 ∧ v1 = nI i ∧ v2 = nI r ∧ v3 = nI d ∧ s3 ≠ 1000000 := by
  unfold gh_rfs at h
  by_cases h1 : v1 < 0
  · rw [if_pos h1] at h; exact absurd h (by decide)
  · rw [if_neg h1] at h
    by_cases h2 : nI K ≤ v1
    · rw [if_pos h2] at h; exact absurd h (by decide)
    · rw [if_neg h2] at h
      by_cases h3 : v2 < 0
      · rw [if_pos h3] at h; exact absurd h (by decide)
      · rw [if_neg h3] at h
        by_cases h4 : 3 < v2
        · rw [if_pos h4] at h; exact absurd h (by decide)
        · rw [if_neg h4] at h
          by_cases h5 : v3 < 0
          · rw [if_pos h5] at h; exact absurd h (by decide)
          · rw [if_neg h5] at h
            by_cases h6 : v3 ≤ 2
            · rw [if_pos h6] at h
              by_cases h7 : s3 = 1000000
              · rw [if_pos h7] at h; exact absurd h (by decide)
              · obtain ⟨i, hi, rfl⟩ := nI_of h1
                obtain ⟨r, hr, rfl⟩ := nI_of h3
                obtain ⟨d, hd, rfl⟩ := nI_of h5
                rw [nI_leI (by omega) hi] at h2
                have h4' : ¬ nI 3 < nI r := h4
                have h6' : nI d ≤ nI 2 := h6
                rw [nI_ltI (by omega) hr] at h4'
                rw [nI_leI hd (by omega)] at h6'
                exact ⟨i, r, d, by omega, by omega, h6', rfl, rfl, rfl, h7⟩
            · rw [if_neg h6] at h; exact absurd h (by decide)
theorem gx_place62 {post : Int32 → SX → Prop} {sp t w : Nat} (hs : sp < 3) (hw : 2 ≤ w) (ht : t + w ≤ 392)
    (k : ∀ me', (∀ a, me' a = if t + 2 ≤ a ∧ a < t + w then 0 else me a) → post (nI t) (NL, TL, TA, RT, TS, rc, pF, pR, pP, me', ba, ot, upd tp sp (nI (t + w)), upd ob sp (ob sp + 1), rt, rs, rp, fw, fr, sc, cp, ss)) :
    ∀ (n i : Nat) (m : Nat → Int32), w - i < n → 2 ≤ i → i ≤ w → (∀ a, m a = if t + 2 ≤ a ∧ a < t + i then 0 else me a) → wX_place_62 post (nI sp) (nI t) (nI w) NL TL TA RT TS rc pF pR pP n (nI i) m ba ot tp ob rt rs rp fw fr sc cp ss := by
  intro n
  induction n with
  | zero => intro i m h; omega
  | succ n ih =>
    intro i m hn h2 hi hm
    refine pk_le w i (fun h => ⟨pk_in sp 3 hs, ?_⟩) (fun h => ?_)
    · have : i = w := by omega
      subst this
      rw [nI_clamp (n := sp) (by omega), nI_add t i]
      exact nm_e ⟨pk_in sp 3 hs, pk_in sp 3 hs, nm_e (k m hm)⟩
    · rw [nI_add t i]
      refine ⟨pk_in (t + i) 392 (by omega), ?_⟩
      rw [nI_clamp (n := t + i) (by omega)]
      refine nm_e (nm_r (nI_1 i) (ih (i + 1) _ (by omega) (by omega) (by omega) (fun a => ?_)))
      by_cases z : a = t + i
      · subst z
        rw [pk_us, if_pos (by omega)]
      · rw [pk_un z, hm]
        by_cases z2 : t + 2 ≤ a ∧ a < t + i
        · rw [if_pos z2, if_pos (by omega)]
        · rw [if_neg z2, if_neg (by omega)]
theorem gx_place {post : Int32 → SX → Prop} {sp t r d g : Nat} (hs : sp < 3) (htp : tp sp = nI t) (ht : t + (2 + r + d) ≤ 392)
    (k : ∀ me', (∀ a, me' a = if t + 2 ≤ a ∧ a < t + (2 + r + d) then 0 else if a = t + 1 then nI (r + 4 * d + 16 * g) else if a = t then ss 3 + 1 else me a) →
      post (nI t) (NL, TL, TA, RT, TS, rc, pF, pR, pP, me', ba, ot, upd tp sp (nI (t + (2 + r + d))), upd ob sp (ob sp + 1), rt, rs, rp, fw, fr, sc, cp, upd ss 3 (ss 3 + 1))) : wpX_place post (NL, TL, TA, RT, TS, rc, pF, pR, pP, me, ba, ot, tp, ob, rt, rs, rp, fw, fr, sc, cp, ss) (nI sp) (nI g) (nI r) (nI d) := by
  unfold wpX_place
  refine ⟨pk_in sp 3 hs, ?_⟩
  rw [nI_clamp (n := sp) (by omega)]
  refine nm_r htp (nm_r (e' := nI (2 + r + d)) (by rw [← nI_add, ← nI_add]; rfl) (nm_e ⟨pk_in t 392 (by omega), ?_⟩))
  rw [nI_clamp (n := t) (by omega)]
  refine nm_e ⟨by rw [nI_1 t]; exact pk_in (t + 1) 392 (by omega), ?_⟩
  rw [nI_1 t, nI_clamp (n := t + 1) (by omega)]
  have e : nI r + 4 * nI d + 16 * nI g = nI (r + 4 * d + 16 * g) := by
    rw [← nI_add, ← nI_add, ← pk_mul, ← pk_mul]; rfl
  rw [e]
  refine nm_e ⟨2 + r + d + 1, ?_⟩
  refine gx_place62 hs (by omega) ht (fun me' hm => k me' (fun a => ?_)) (2 + r + d + 1) 2 _ (by omega) (by omega) (by omega) (fun a => by rw [if_neg (by omega)])
  rw [hm a]
  by_cases z : t + 2 ≤ a ∧ a < t + (2 + r + d)
  · rw [if_pos z, if_pos z]
  · rw [if_neg z, if_neg z]
    by_cases z2 : a = t + 1
    · subst z2
      rw [pk_us, if_pos rfl]
    · rw [pk_un z2, if_neg z2]
      by_cases z3 : a = t
      · subst z3
        rw [pk_us, if_pos rfl]
        exact pk_us
      · rw [pk_un z3, if_neg z3]
/-- the new heap of an allocation -/
theorem gx_K_al (wf : gh_WF N T P K ids ag nr nd rf ro la) (k : gx_K P ids ag nr nd rf da ro L A bs os c me ba ot tp ob rt rs rp) {sp i r d g : Nat} {me' tp' ob' rt' : Nat → Int32} (hs : sp < 3) (hg : gh_sp P g = sp) (hr : r ≤ 3) (hd : d ≤ 2)
    (hroom : gh_S (gh_w nr nd) (L sp) + (2 + r + d) ≤ (if sp = 0 then 32 else 64)) (hla : la < 1000000)
    (hm : ∀ a, me' a = if bs sp + gh_S (gh_w nr nd) (L sp) + 2 ≤ a ∧ a < bs sp + gh_S (gh_w nr nd) (L sp) + (2 + r + d) then 0 else if a = bs sp + gh_S (gh_w nr nd) (L sp) + 1 then nI (r + 4 * d + 16 * g) else if a = bs sp + gh_S (gh_w nr nd) (L sp) then nI (la + 1) else me a)
    (htp : ∀ s, s < 3 → tp' s = if s = sp then nI (bs sp + gh_S (gh_w nr nd) (L sp) + (2 + r + d)) else tp s) (hob : ∀ s, s < 3 → ob' s = if s = sp then ob s + 1 else ob s)
    (hrt : ∀ q, q < 8 → rt' q = if q = i then nI (bs sp + gh_S (gh_w nr nd) (L sp)) else rt q) :
    gx_K P (ids ++ [la + 1]) (gh_u ag (la + 1) g) (gh_u nr (la + 1) r) (gh_u nd (la + 1) d) (gh_u rf (la + 1) (fun _ => 0)) (gh_u da (la + 1) (fun _ => 0)) (gh_u ro i (la + 1)) (gh_u L sp (L sp ++ [la + 1])) (gh_u A (la + 1) (bs sp + gh_S (gh_w nr nd) (L sp))) bs os c me' ba ot tp' ob' rt' rs rp := by
  have hne : ∀ x, x ∈ ids → x ≠ la + 1 := fun x hx e => by have := (wf.2.2.1 x hx).2.1; omega
  have hhw : ∀ x, x ∈ ids → gh_w (gh_u nr (la + 1) r) (gh_u nd (la + 1) d) x = gh_w nr nd x := by
    intro x hx
    unfold gh_w
    rw [gh_un (hne x hx), gh_un (hne x hx)]
  have hwx : gh_w (gh_u nr (la + 1) r) (gh_u nd (la + 1) d) (la + 1) = 2 + r + d := by
    unfold gh_w
    rw [gh_us, gh_us]
  have hLi : ∀ s, s < 3 → ∀ x, x ∈ L s → x ∈ ids := fun s h x hx => (((k.2.2.1 s h).2.1 x).mp hx).1
  have hS : ∀ s, s < 3 → gh_S (gh_w (gh_u nr (la + 1) r) (gh_u nd (la + 1) d)) (L s) = gh_S (gh_w nr nd) (L s) := fun s h => gh_S_congr (fun x hx => hhw x (hLi s h x hx))
  have hA : ∀ x, x ∈ ids → gh_u A (la + 1) (bs sp + gh_S (gh_w nr nd) (L sp)) x = A x := fun x hx => gh_un (hne x hx)
  have hA0 : gh_u A (la + 1) (bs sp + gh_S (gh_w nr nd) (L sp)) 0 = 0 := by rw [gh_un (by omega)]; exact k.1
  have hlay : ∀ s, s < 3 → gh_lay (gh_w (gh_u nr (la + 1) r) (gh_u nd (la + 1) d)) (gh_u A (la + 1) (bs sp + gh_S (gh_w nr nd) (L sp))) (bs s) (L s) := by
    intro s h
    have e : ∀ (l : List Nat) (b : Nat), (∀ x, x ∈ l → x ∈ ids) → gh_lay (gh_w nr nd) A b l → gh_lay (gh_w (gh_u nr (la + 1) r) (gh_u nd (la + 1) d)) (gh_u A (la + 1) (bs sp + gh_S (gh_w nr nd) (L sp))) b l := by
      intro l
      induction l with
      | nil => intro b _ _; trivial
      | cons x l ih =>
        intro b hx hl
        have hxi := hx x (List.mem_cons_self ..)
        refine ⟨(hA x hxi).trans hl.1, ?_⟩
        rw [hhw x hxi]
        exact ih _ (fun y hy => hx y (List.mem_cons_of_mem _ hy)) hl.2
    exact e _ _ (hLi s h) (k.2.2.1 s h).2.2.1
  -- old objects are not touched
  have hfr : ∀ x, x ∈ ids → ∀ a, A x ≤ a → a < A x + gh_w nr nd x → me' a = me a := by
    intro x hx a h1 h2
    have hat := gx_atN wf k hx
    have hz := gx_sz wf k
    have hh := k.2.1
    unfold gx_half at hh
    have hsp : sp = 0 ∨ sp = 1 ∨ sp = 2 := by omega
    have hout : a < bs sp + gh_S (gh_w nr nd) (L sp) ∨ bs sp + gh_S (gh_w nr nd) (L sp) + (2 + r + d) ≤ a := by
      rcases hsp with e | e | e
      · subst e
        rw [if_pos rfl] at hroom
        omega
      · subst e
        rw [if_neg (by omega)] at hroom
        omega
      · subst e
        rw [if_neg (by omega)] at hroom
        omega
    rw [hm a, if_neg (by omega), if_neg (by omega), if_neg (by omega)]
  have hk2 := (k.2.2.1 sp hs)
  refine ⟨hA0, k.2.1, ?_, ?_, ?_, ?_⟩
  · intro s h
    obtain ⟨k1, k2, k3, k4, k5, k6, k7⟩ := k.2.2.1 s h
    by_cases z : s = sp
    · subst z
      rw [gh_us]
      refine ⟨?_, fun x => ?_, ?_, k4, k5, ?_, ?_⟩
      · rw [List.nodup_append]
        refine ⟨k1, by simp, fun a ha b hb => ?_⟩
        rw [List.mem_singleton] at hb
        subst hb
        exact hne a (hLi s h a ha)
      · rw [List.mem_append, List.mem_append, List.mem_singleton]
        constructor
        · rintro (h1 | h1)
          · have h2 := (k2 x).mp h1
            rw [gh_un (hne x h2.1)]
            exact ⟨Or.inl h2.1, h2.2⟩
          · subst h1
            rw [gh_us]
            exact ⟨Or.inr rfl, hg⟩
        · rintro ⟨h1 | h1, h2⟩
          · rw [gh_un (hne x h1)] at h2
            exact Or.inl ((k2 x).mpr ⟨h1, h2⟩)
          · exact Or.inr h1
      · rw [gh_lay_app, hS s h]
        exact ⟨hlay s h, gh_us, trivial⟩
      · rw [htp s h, if_pos rfl, gh_S_app, hS s h]
        simp only [gh_S, hwx]
        congr 1
        omega
      · rw [hob s h, if_pos rfl, k7, nI_1, List.length_append]
        rfl
    · rw [gh_un z, hS s h, htp s h, if_neg z, hob s h, if_neg z]
      refine ⟨k1, fun x => ?_, hlay s h, k4, k5, k6, k7⟩
      rw [List.mem_append, List.mem_singleton]
      constructor
      · intro h1
        have h2 := (k2 x).mp h1
        rw [gh_un (hne x h2.1)]
        exact ⟨Or.inl h2.1, h2.2⟩
      · rintro ⟨h1 | h1, h2⟩
        · rw [gh_un (hne x h1)] at h2
          exact (k2 x).mpr ⟨h1, h2⟩
        · subst h1
          rw [gh_us, hg] at h2
          exact absurd h2.symm z
  · intro x hx
    rcases List.mem_append.mp hx with h1 | h1
    · have ho := gx_obj_fr (hfr x h1) (k.2.2.2.1 x h1)
      unfold gx_obj at ho ⊢
      rw [hA x h1, gh_un (hne x h1), gh_un (hne x h1), gh_un (hne x h1), gh_un (hne x h1), gh_un (hne x h1)]
      refine ⟨ho.1, ho.2.1, fun j hj => ?_, ho.2.2.2⟩
      rw [ho.2.2.1 j hj]
      rcases wf.2.2.2.1 x j h1 hj with e | e
      · rw [e, hA0, k.1]
      · rw [hA _ e]
    · rw [List.mem_singleton] at h1
      subst h1
      unfold gx_obj
      rw [gh_us, gh_us, gh_us, gh_us, gh_us, gh_us]
      refine ⟨?_, ?_, fun j hj => ?_, fun j hj => ?_⟩
      · rw [hm, if_neg (by omega), if_neg (by omega), if_pos rfl]
      · rw [hm, if_neg (by omega), if_pos rfl]
      · rw [hm, if_pos (by omega), hA0]; rfl
      · rw [hm, if_pos (by omega)]
  · intro q hq
    rw [hrt q hq]
    by_cases z : q = i
    · subst z
      rw [if_pos rfl, gh_us, gh_us]
    · rw [if_neg z, gh_un z, k.2.2.2.2.1 q hq]
      rcases wf.2.2.2.2.1 q with e | e
      · rw [e, hA0, k.1]
      · rw [hA _ e]
  · refine gx_rem_congr (fun b => ?_) k.2.2.2.2.2
    unfold gx_cross
    constructor
    · rintro ⟨x, hx, j, hj, e, hy⟩
      have hxi := hLi 2 (by omega) x hx
      have hw : gh_w nr nd x = 2 + nr x + nd x := rfl
      refine ⟨x, ?_, j, ?_, ?_, ?_⟩
      · by_cases z : sp = 2
        · subst z
          rw [gh_us]
          exact List.mem_append.mpr (Or.inl hx)
        · rw [gh_un (fun c => z c.symm)]
          exact hx
      · rw [gh_un (hne x hxi)]; exact hj
      · rw [hA x hxi]; exact e
      · rw [hfr x hxi b (by omega) (by omega)]; exact hy
    · rintro ⟨x, hx, j, hj, e, hy⟩
      have hx' : x ∈ L 2 ∨ (x = la + 1 ∧ sp = 2) := by
        by_cases z : sp = 2
        · subst z
          rw [gh_us] at hx
          rcases List.mem_append.mp hx with h1 | h1
          · exact Or.inl h1
          · exact Or.inr ⟨List.mem_singleton.mp h1, rfl⟩
        · rw [gh_un (fun c => z c.symm)] at hx
          exact Or.inl hx
      rcases hx' with h1 | ⟨h1, h2⟩
      · have hxi := hLi 2 (by omega) x h1
        have hw : gh_w nr nd x = 2 + nr x + nd x := rfl
        rw [gh_un (hne x hxi)] at hj
        rw [hA x hxi] at e
        rw [hfr x hxi b (by omega) (by omega)] at hy
        exact ⟨x, h1, j, hj, e, hy⟩
      · subst h1
        rw [gh_us] at hj e
        exfalso
        rw [hm b, if_pos (by omega)] at hy
        exact hy.1 rfl
/-- allocation in the nursery: the room is there -/
theorem gx_alloc62 {post : Int32 → SX → Prop} {i r d : Nat} (wf : gh_WF N T P K ids ag nr nd rf ro la) (h : gx_R N T P K ids ag nr nd rf da ro st (NL, TL, TA, RT, TS, rc, pF, pR, pP, me, ba, ot, tp, ob, rt, rs, rp, fw, fr, sc, cp, ss)) (h3 : st 3 = nI la) (hla : la < 1000000) (hi : i < K) (hr : r ≤ 3) (hd : d ≤ 2)
    (hroom : gh_as ag (gh_w nr nd) ids 0 + (2 + r + d) ≤ N)
    (kk : ∀ u, gx_R N T P K (ids ++ [la + 1]) (gh_u ag (la + 1) 0) (gh_u nr (la + 1) r) (gh_u nd (la + 1) d) (gh_u rf (la + 1) (fun _ => 0)) (gh_u da (la + 1) (fun _ => 0)) (gh_u ro i (la + 1)) (upd st 3 (st 3 + 1)) u → post (nI (la + 1)) u) :
    wX_alloc_62 post (nI i) (nI r) (nI d) NL TL TA RT TS rc pF pR pP me ba ot tp ob rt rs rp fw fr sc cp ss := by
  obtain ⟨⟨e1, e2, e3, e4⟩, e5, L, A, bs, os, c, e6, k⟩ := h
  subst e1 e2 e3 e4 e5 e6
  have hK8 : K ≤ 8 := wf.1.2.2.2.2.2.2.2.1
  have hN32 : N ≤ 32 := wf.1.2.1
  have hh := k.2.1
  unfold gx_half at hh
  have h0 := k.2.2.1 0 (by omega)
  have hL : gh_S (gh_w nr nd) (L 0) = gh_as ag (gh_w nr nd) ids 0 := by rw [gx_Lsum wf.2.1 k (by omega), gh_used0]
  unfold wX_alloc_62
  refine gx_place (sp := 0) (g := 0) (t := bs 0 + gh_S (gh_w nr nd) (L 0)) (by omega) h0.2.2.2.2.2.1 (by omega) (fun me' hm => ⟨pk_in i 8 (by omega), ?_⟩)
  rw [nI_clamp (n := i) (by omega)]
  have e3 : ss 3 + 1 = nI (la + 1) := by rw [h3, nI_1]
  have es : upd ss 3 (ss 3 + 1) 3 = nI (la + 1) := e3
  refine nm_e ?_
  rw [es]
  refine kk _ ⟨⟨rfl, rfl, rfl, rfl⟩, rfl, _, _, bs, os, c, rfl, gx_K_al wf k (sp := 0) (i := i) (g := 0) (by omega) rfl hr hd ?_ hla (fun a => ?_) (fun s hs => ?_) (fun s hs => ?_) (fun q hq => ?_)⟩
  · rw [if_pos rfl]; omega
  · rw [hm a, e3]
  · by_cases z : s = 0
    · subst z; rw [pk_us, if_pos rfl]
    · rw [pk_un z, if_neg z]
  · by_cases z : s = 0
    · subst z; rw [pk_us, if_pos rfl]
    · rw [pk_un z, if_neg z]
  · by_cases z : q = i
    · subst z; rw [pk_us, if_pos rfl]
    · rw [pk_un z, if_neg z]
theorem gx_allocT62 {post : Int32 → SX → Prop} {i r d : Nat} (wf : gh_WF N T P K ids ag nr nd rf ro la) (h : gx_R N T P K ids ag nr nd rf da ro st (NL, TL, TA, RT, TS, rc, pF, pR, pP, me, ba, ot, tp, ob, rt, rs, rp, fw, fr, sc, cp, ss)) (h3 : st 3 = nI la) (hla : la < 1000000) (hi : i < K) (hr : r ≤ 3) (hd : d ≤ 2)
    (hroom : gh_as ag (gh_w nr nd) ids P + (2 + r + d) ≤ T)
    (kk : ∀ u, gx_R N T P K (ids ++ [la + 1]) (gh_u ag (la + 1) P) (gh_u nr (la + 1) r) (gh_u nd (la + 1) d) (gh_u rf (la + 1) (fun _ => 0)) (gh_u da (la + 1) (fun _ => 0)) (gh_u ro i (la + 1)) (upd st 3 (st 3 + 1)) u → post (nI (la + 1)) u) :
    wX_allocTenured_62 post (nI i) (nI r) (nI d) NL TL TA RT TS rc pF pR pP me ba ot tp ob rt rs rp fw fr sc cp ss := by
  obtain ⟨⟨e1, e2, e3, e4⟩, e5, L, A, bs, os, c, e6, k⟩ := h
  subst e1 e2 e3 e4 e5 e6
  have hK8 : K ≤ 8 := wf.1.2.2.2.2.2.2.2.1
  have hT64 : T ≤ 64 := wf.1.2.2.2.1
  have hP1 : 1 ≤ P := wf.1.2.2.2.2.1
  have hh := k.2.1
  unfold gx_half at hh
  have h0 := k.2.2.1 2 (by omega)
  have hL : gh_S (gh_w nr nd) (L 2) = gh_as ag (gh_w nr nd) ids P := by rw [gx_Lsum wf.2.1 k (by omega), gh_used2 (gh_bd_of wf)]
  unfold wX_allocTenured_62
  refine gx_place (sp := 2) (g := P) (t := bs 2 + gh_S (gh_w nr nd) (L 2)) (by omega) h0.2.2.2.2.2.1 (by omega) (fun me' hm => ⟨pk_in i 8 (by omega), ?_⟩)
  rw [nI_clamp (n := i) (by omega)]
  have e3 : ss 3 + 1 = nI (la + 1) := by rw [h3, nI_1]
  have es : upd ss 3 (ss 3 + 1) 3 = nI (la + 1) := e3
  refine nm_e ?_
  rw [es]
  refine kk _ ⟨⟨rfl, rfl, rfl, rfl⟩, rfl, _, _, bs, os, c, rfl, gx_K_al wf k (sp := 2) (i := i) (g := P) (by omega) (gh_sp2.mpr ⟨by omega, by omega⟩) hr hd ?_ hla (fun a => ?_) (fun s hs => ?_) (fun s hs => ?_) (fun q hq => ?_)⟩
  · rw [if_neg (by omega)]; omega
  · rw [hm a, e3]
  · by_cases z : s = 2
    · subst z; rw [pk_us, if_pos rfl]
    · rw [pk_un z, if_neg z]
  · by_cases z : s = 2
    · subst z; rw [pk_us, if_pos rfl]
    · rw [pk_un z, if_neg z]
  · by_cases z : q = i
    · subst z; rw [pk_us, if_pos rfl]
    · rw [pk_un z, if_neg z]
end
end
section
/-! the component: writes to roots, fields and data; look-ups -/
section
variable {NL TL TA RT TS rc pF pR pP : Int32} {me ba ot tp ob rt rs rp fw fr sc cp ss : Nat → Int32} {ids : List Nat} {ag nr nd : Nat → Nat} {rf : Nat → Nat → Nat} {da : Nat → Nat → Int32} {ro : Nat → Nat} {A bs os : Nat → Nat} {N T P K la c : Nat} {L : Nat → List Nat} {st : Nat → Int32}
theorem gx_A392 (wf : gh_WF N T P K ids ag nr nd rf ro la) (k : gx_K P ids ag nr nd rf da ro L A bs os c me ba ot tp ob rt rs rp) {y : Nat} (hy : y = 0 ∨ y ∈ ids) : A y < 392 := by
  rcases hy with e | e
  · rw [e, k.1]; omega
  · have := gx_in wf k e
    have hw := gh_w2 (nr := nr) (nd := nd) (x := y)
    omega
theorem gx_serialAt {post : Int32 → Prop} (wf : gh_WF N T P K ids ag nr nd rf ro la) (k : gx_K P ids ag nr nd rf da ro L A bs os c me ba ot tp ob rt rs rp) {y : Nat} (hy : y = 0 ∨ y ∈ ids) {rt' : Nat → Int32} {rc' : Int32} (kk : post (nI y)) : wpX_serialAt post (NL, TL, TA, RT, TS, rc', pF, pR, pP, me, ba, ot, tp, ob, rt', rs, rp, fw, fr, sc, cp, ss) (nI (A y)) := by
  have h392 := gx_A392 wf k hy
  unfold wpX_serialAt
  rcases hy with e | e
  · subst e
    exact br_t (by rw [k.1]; rfl) kk
  · have hin := gx_in wf k e
    refine br_f (nI_ne0 (by omega) (by omega)) ⟨pk_in (A y) 392 h392, ?_⟩
    rw [nI_clamp (n := A y) (by omega), (k.2.2.2.1 y e).1]
    exact kk
theorem gx_dscA (wf : gh_WF N T P K ids ag nr nd rf ro la) (k : gx_K P ids ag nr nd rf da ro L A bs os c me ba ot tp ob rt rs rp) {y : Nat} (hy : y ∈ ids) : gx_dsc me (A y) (nr y) (nd y) (ag y) := by
  have hin := gx_in wf k hy
  have hb := wf.2.2.1 y hy
  have hP : P ≤ 3 := wf.1.2.2.2.2.2.1
  have hw := gh_w2 (nr := nr) (nd := nd) (x := y)
  exact ⟨by omega, by omega, by omega, by omega, (k.2.2.2.1 y hy).2.1⟩
theorem gx_refFR {post : Int32 → Prop} {f : Int32} (wf : gh_WF N T P K ids ag nr nd rf ro la) (k : gx_K P ids ag nr nd rf da ro L A bs os c me ba ot tp ob rt rs rp) {y : Nat} (hy : y = 0 ∨ y ∈ ids)
    (k4 : y = 0 → post (-4)) (k5 : y ∈ ids → (∀ i, i < nr y → f ≠ nI i) → post (-5)) (k0 : ∀ i, y ∈ ids → i < nr y → f = nI i → post 0) : wpX_refFieldRefusal post (NL, TL, TA, RT, TS, rc, pF, pR, pP, me, ba, ot, tp, ob, rt, rs, rp, fw, fr, sc, cp, ss) (nI (A y)) f := by
  unfold wpX_refFieldRefusal
  rcases hy with e | e
  · exact br_t (by rw [e, k.1]; rfl) (k4 e)
  · have hin := gx_in wf k e
    have hb := wf.2.2.1 y e
    have hw := gh_w2 (nr := nr) (nd := nd) (x := y)
    refine br_f (nI_ne0 (by omega) (by omega)) (br_c (fun h => k5 e (fun i hi c => ?_)) (fun h => gx_refsAt (gx_dscA wf k e) ?_))
    · rw [c] at h; exact nI_pos (by omega) h
    · obtain ⟨i, hi, rfl⟩ := nI_of h
      refine pk_lt i (nr y) (fun h2 => k0 i e h2 rfl) (fun h2 => k5 e (fun j hj c => ?_))
      have := (nI_eq hi (by omega)).mp c
      omega
theorem gx_K_ro (k : gx_K P ids ag nr nd rf da ro L A bs os c me ba ot tp ob rt rs rp) {i y : Nat} : gx_K P ids ag nr nd rf da (gh_u ro i y) L A bs os c me ba ot tp ob (upd rt i (nI (A y))) rs rp := by
  obtain ⟨k1, k2, k3, k4, k5, k6⟩ := k
  refine ⟨k1, k2, k3, k4, fun r hr => ?_, k6⟩
  by_cases z : r = i
  · subst z; rw [pk_us, gh_us]
  · rw [pk_un z, gh_un z]; exact k5 r hr
theorem gx_writeRef {post : SX → Prop} (wf : gh_WF N T P K ids ag nr nd rf ro la) (k : gx_K P ids ag nr nd rf da ro L A bs os c me ba ot tp ob rt rs rp) {x j y : Nat} (hx : x ∈ ids) (hj : j < nr x) (hy : y = 0 ∨ y ∈ ids)
    (kk : ∀ c' me' rs' rp', gx_K P ids ag nr nd (gh_u rf x (gh_u (rf x) j y)) da ro L A bs os c' me' ba ot tp ob rt rs' rp' → post (NL, TL, TA, RT, TS, nI c', pF, pR, pP, me', ba, ot, tp, ob, rt, rs', rp', fw, fr, sc, cp, ss)) :
    wpX_writeRef post (NL, TL, TA, RT, TS, nI c, pF, pR, pP, me, ba, ot, tp, ob, rt, rs, rp, fw, fr, sc, cp, ss) (nI (A x + 2 + j)) (nI (A y)) := by
  have hin := gx_in wf k hx
  have hw : gh_w nr nd x = 2 + nr x + nd x := rfl
  have hA392 := gx_A392 wf k hy
  have hat := gx_atN wf k hx
  have hsz := gx_sz wf k
  have hh := k.2.1
  unfold gx_half at hh
  have hobj : ∀ z, z ∈ ids → gx_obj ag nr nd (gh_u rf x (gh_u (rf x) j y)) da (upd me (A x + 2 + j) (nI (A y))) A z := by
    intro z hz
    have ho := k.2.2.2.1 z hz
    by_cases e : z = x
    · subst e
      unfold gx_obj
      rw [gh_us]
      refine ⟨?_, ?_, fun i hi => ?_, fun i hi => ?_⟩
      · rw [pk_un (by omega)]; exact ho.1
      · rw [pk_un (by omega)]; exact ho.2.1
      · by_cases e : i = j
        · subst e; rw [pk_us, gh_us]
        · rw [pk_un (by omega), gh_un e]; exact ho.2.2.1 i hi
      · rw [pk_un (by omega)]; exact ho.2.2.2 i hi
    · have hd := gx_dis wf k hz hx e
      have ho' : gx_obj ag nr nd rf da (upd me (A x + 2 + j) (nI (A y))) A z := gx_obj_fr (fun a b1 b2 => pk_un (by omega)) ho
      unfold gx_obj at ho' ⊢
      rw [gh_un e]
      exact ho'
  have hcr : ∀ b, b ≠ A x + 2 + j → (gx_cross (L 2) A nr (upd me (A x + 2 + j) (nI (A y))) b ↔ gx_cross (L 2) A nr me b) := by
    intro b hb
    unfold gx_cross
    rw [pk_un hb]
  have hcx : ∀ q : Nat → Int32, gx_cross (L 2) A nr q (A x + 2 + j) ↔ (x ∈ L 2 ∧ gx_yI (q (A x + 2 + j))) := by
    intro q
    constructor
    · rintro ⟨z, hz, i, hi, e, hyy⟩
      have hz' := (gx_L2P wf k).mp hz
      have hwz : gh_w nr nd z = 2 + nr z + nd z := rfl
      have := gx_slot wf k (i := 2 + j) (j := 2 + i) hx hz'.1 (by omega) (by omega) (by omega)
      rw [← this.1] at hz
      exact ⟨hz, hyy⟩
    · rintro ⟨h1, h2⟩
      exact ⟨x, h1, j, hj, rfl, h2⟩
  have mk : ∀ c' rs' rp', gx_rem c' rs' rp' (gx_cross (L 2) A nr (upd me (A x + 2 + j) (nI (A y)))) → post (NL, TL, TA, RT, TS, nI c', pF, pR, pP, upd me (A x + 2 + j) (nI (A y)), ba, ot, tp, ob, rt, rs', rp', fw, fr, sc, cp, ss) :=
    fun c' rs' rp' hr => kk c' _ rs' rp' ⟨k.1, k.2.1, k.2.2.1, hobj, k.2.2.2.2.1, hr⟩
  have hrem := k.2.2.2.2.2
  unfold wpX_writeRef
  refine ⟨pk_in (A x + 2 + j) 392 (by omega), ?_⟩
  rw [nI_clamp (n := A x + 2 + j) (by omega)]
  refine nm_e (pk_lt (A x + 2 + j) 200 (fun h => mk c rs rp (gx_rem_congr (fun b => ?_) hrem)) (fun h => ?_))
  · by_cases e : b = A x + 2 + j
    · subst e
      have hn : x ∉ L 2 := by
        intro hc
        have := (gx_L2P wf k).mp hc
        omega
      rw [hcx, hcx]
      exact ⟨fun c => absurd c.1 hn, fun c => absurd c.1 hn⟩
    · exact (hcr b e).symm
  · have hx2 : x ∈ L 2 := (gx_L2P wf k).mpr ⟨hx, by omega⟩
    refine gx_isYoung (fun hyy => br_f (by decide) ?_) (fun hyy => br_t rfl ?_)
    · have hl := gh_lay_in _ _ x (k.2.2.1 2 (by omega)).2.2.1 hx2
      refine gx_remember (lo := bs 2) hrem (by omega) (fun b hb => ?_) (by omega) (fun c' rs' rp' hr => mk c' rs' rp' (gx_rem_congr (fun b => ?_) hr))
      · obtain ⟨z, hz, i, hi, e, _⟩ := hb
        have hl := gh_lay_in _ _ z (k.2.2.1 2 (by omega)).2.2.1 hz
        have hwz : gh_w nr nd z = 2 + nr z + nd z := rfl
        omega
      · by_cases e : b = A x + 2 + j
        · subst e
          rw [hcx (upd me (A x + 2 + j) (nI (A y))), pk_us]
          exact ⟨fun _ => ⟨hx2, hyy⟩, fun _ => Or.inr rfl⟩
        · rw [hcr b e]
          exact ⟨fun c => c.elim id (fun d => absurd d e), Or.inl⟩
    · refine gx_forget hrem (by omega) (fun c' rs' rp' hr => mk c' rs' rp' (gx_rem_congr (fun b => ?_) hr))
      by_cases e : b = A x + 2 + j
      · subst e
        rw [hcx (upd me (A x + 2 + j) (nI (A y))), pk_us]
        exact ⟨fun c => absurd rfl c.2, fun c => absurd c.2 hyy⟩
      · rw [hcr b e]
        exact ⟨fun c => c.1, fun c => ⟨c, e⟩⟩
theorem gx_K_da (wf : gh_WF N T P K ids ag nr nd rf ro la) (k : gx_K P ids ag nr nd rf da ro L A bs os c me ba ot tp ob rt rs rp) {x j : Nat} {v : Int32} (hx : x ∈ ids) (hj : j < nd x) :
    gx_K P ids ag nr nd rf (gh_u da x (gh_u (da x) j v)) ro L A bs os c (upd me (A x + 2 + nr x + j) v) ba ot tp ob rt rs rp := by
  have hw : gh_w nr nd x = 2 + nr x + nd x := rfl
  refine ⟨k.1, k.2.1, k.2.2.1, fun z hz => ?_, k.2.2.2.2.1, gx_rem_congr (fun b => ?_) k.2.2.2.2.2⟩
  · have ho := k.2.2.2.1 z hz
    by_cases e : z = x
    · subst e
      unfold gx_obj
      rw [gh_us]
      refine ⟨?_, ?_, fun i hi => ?_, fun i hi => ?_⟩
      · rw [pk_un (by omega)]; exact ho.1
      · rw [pk_un (by omega)]; exact ho.2.1
      · rw [pk_un (by omega)]; exact ho.2.2.1 i hi
      · by_cases e : i = j
        · subst e; rw [pk_us, gh_us]
        · rw [pk_un (by omega), gh_un e]; exact ho.2.2.2 i hi
    · have hd := gx_dis wf k hz hx e
      have ho' : gx_obj ag nr nd rf da (upd me (A x + 2 + nr x + j) v) A z := gx_obj_fr (fun a b1 b2 => pk_un (by omega)) ho
      unfold gx_obj at ho' ⊢
      rw [gh_un e]
      exact ho'
  · have hne : ∀ z i, z ∈ L 2 → i < nr z → A z + 2 + i ≠ A x + 2 + nr x + j := by
      intro z i hz hi e
      have hz' := (gx_L2P wf k).mp hz
      have hwz : gh_w nr nd z = 2 + nr z + nd z := rfl
      have := gx_slot wf k (i := 2 + i) (j := 2 + nr x + j) hz'.1 hx (by omega) (by omega) (by omega)
      rw [this.1] at hi
      omega
    constructor
    · rintro ⟨z, hz, i, hi, e, hyy⟩
      refine ⟨z, hz, i, hi, e, ?_⟩
      subst e
      rw [pk_un (hne z i hz hi)]
      exact hyy
    · rintro ⟨z, hz, i, hi, e, hyy⟩
      refine ⟨z, hz, i, hi, e, ?_⟩
      subst e
      rw [pk_un (hne z i hz hi)] at hyy
      exact hyy
/-! look-ups -/
theorem gx_findIn18 {post : Int32 → Prop} {p1 : Int32} {gg : Nat → Nat} {cnt : Nat} : ∀ (l : List Nat) (n b i : Nat), l.length < n → cnt = i + l.length → cnt < 2 ^ 31 → gh_lay (gh_w nr nd) A b l →
    (∀ x, x ∈ l → gx_dsc me (A x) (nr x) (nd x) (gg x) ∧ me (A x) = nI x) → (∀ x, x ∈ l → p1 = nI x → post (nI (A x))) → ((∀ x, x ∈ l → p1 ≠ nI x) → post 0) → wX_findIn_18 post p1 (nI cnt) NL TL TA RT TS rc pF pR pP me ba ot tp ob rt rs rp fw fr sc cp ss n (nI b) (nI i) := by
  intro l
  induction l with
  | nil =>
    intro n b i hn hc hc2 hl hx k1 k0
    obtain ⟨n, rfl⟩ : ∃ n', n = n' + 1 := ⟨n - 1, by omega⟩
    simp only [List.length_nil] at hc
    exact br_t (nI_le (by omega) (by omega)) (k0 (fun x hx => nomatch hx))
  | cons x l ih =>
    intro n b i hn hc hc2 hl hx k1 k0
    obtain ⟨n, rfl⟩ : ∃ n', n = n' + 1 := ⟨n - 1, by omega⟩
    simp only [List.length_cons] at hc hn
    obtain ⟨hl1, hl2⟩ := hl
    obtain ⟨hd, hs⟩ := hx x (List.mem_cons_self ..)
    subst hl1
    refine br_f (nI_ge (by omega) (by omega)) ⟨pk_in (A x) 392 (by have := hd.1; omega), ?_⟩
    have h392 := hd.1
    rw [nI_clamp (n := A x) (by omega), hs]
    by_cases e : nI x = p1
    · exact br_t e (k1 x (List.mem_cons_self ..) e.symm)
    · refine br_f e (gx_weightAt hd (nm_r (nI_add _ _) (nm_r (nI_1 i) (ih n _ (i + 1) (by omega) (by omega) hc2 hl2 (fun y hy => hx y (List.mem_cons_of_mem _ hy)) (fun y hy => k1 y (List.mem_cons_of_mem _ hy)) (fun h0 => k0 (fun y hy => ?_))))))
      rcases List.mem_cons.mp hy with z | z
      · subst z; exact fun c => e c.symm
      · exact h0 y z
theorem gx_Llen (wf : gh_WF N T P K ids ag nr nd rf ro la) (k : gx_K P ids ag nr nd rf da ro L A bs os c me ba ot tp ob rt rs rp) {sp : Nat} (hs : sp < 3) : (L sp).length ≤ 80 :=
  Nat.le_trans (gh_len_le (k.2.2.1 sp hs).1 (fun x hx => (((k.2.2.1 sp hs).2.1 x).mp hx).1)) (gh_len80 wf)
theorem gx_findIn {post : Int32 → Prop} {p1 : Int32} (wf : gh_WF N T P K ids ag nr nd rf ro la) (k : gx_K P ids ag nr nd rf da ro L A bs os c me ba ot tp ob rt rs rp) {sp : Nat} (hs : sp < 3)
    (k1 : ∀ x, x ∈ L sp → p1 = nI x → post (nI (A x))) (k0 : (∀ x, x ∈ L sp → p1 ≠ nI x) → post 0) : wpX_findIn post (NL, TL, TA, RT, TS, rc, pF, pR, pP, me, ba, ot, tp, ob, rt, rs, rp, fw, fr, sc, cp, ss) (nI sp) p1 := by
  obtain ⟨h1, h2, h3, h4, h5, h6, h7⟩ := k.2.2.1 sp hs
  have hl := gx_Llen wf k hs
  unfold wpX_findIn
  refine ⟨pk_in sp 3 hs, ?_⟩
  rw [nI_clamp (n := sp) (by omega)]
  refine nm_r h4 ⟨pk_in sp 3 hs, nm_r h7 ⟨(L sp).length + 1, ?_⟩⟩
  exact gx_findIn18 (nd := nd) (gg := ag) (L sp) ((L sp).length + 1) (bs sp) 0 (by omega) (by omega) (by omega) h3 (fun x hx => ⟨gx_dscA wf k ((h2 x).mp hx).1, (k.2.2.2.1 x ((h2 x).mp hx).1).1⟩) k1 k0
theorem gx_find19 {post : Int32 → Prop} {p0 : Int32} (wf : gh_WF N T P K ids ag nr nd rf ro la) (k : gx_K P ids ag nr nd rf da ro L A bs os c me ba ot tp ob rt rs rp)
    (k1 : ∀ x, x ∈ ids → p0 = nI x → post (nI (A x))) (k0 : (∀ x, x ∈ ids → p0 ≠ nI x) → post 0) :
    ∀ (n sp : Nat), 3 - sp < n → sp ≤ 3 → (∀ s, s < sp → ∀ x, x ∈ L s → p0 ≠ nI x) → wX_find_19 post p0 NL TL TA RT TS rc pF pR pP me ba ot tp ob rt rs rp fw fr sc cp ss n (nI sp) := by
  intro n
  induction n with
  | zero => intro sp h; omega
  | succ n ih =>
    intro sp hn hs ha
    refine pk_le 3 sp (fun h => k0 (fun x hx => ?_)) (fun h => gx_findIn wf k h (fun x hx e => ?_) (fun h0 => br_t rfl (nm_r (nI_1 sp) (ih (sp + 1) (by omega) (by omega) (fun s hs2 => ?_)))))
    · have h3 : gh_sp P (ag x) < 3 := gh_sp3
      exact ha _ (by omega) x (((k.2.2.1 _ h3).2.1 x).mpr ⟨hx, rfl⟩)
    · have hx' := ((k.2.2.1 sp h).2.1 x).mp hx
      have hin := gx_in wf k hx'.1
      have hw := gh_w2 (nr := nr) (nd := nd) (x := x)
      exact br_f (nI_ne0 (by omega) (by omega)) (k1 x hx'.1 e)
    · by_cases z : s = sp
      · subst z; exact h0
      · exact ha s (by omega)
theorem gx_find {post : Int32 → Prop} {p0 : Int32} (wf : gh_WF N T P K ids ag nr nd rf ro la) (k : gx_K P ids ag nr nd rf da ro L A bs os c me ba ot tp ob rt rs rp) (h3 : ss 3 = nI la)
    (k1 : ∀ x, x ∈ ids → p0 = nI x → post (nI (A x))) (k0 : (∀ x, x ∈ ids → p0 ≠ nI x) → post 0) : wpX_find post (NL, TL, TA, RT, TS, rc, pF, pR, pP, me, ba, ot, tp, ob, rt, rs, rp, fw, fr, sc, cp, ss) p0 := by
  have hla : la ≤ 1000000 := wf.1.2.2.2.2.2.2.2.2
  unfold wpX_find
  refine br_c (fun h => k0 (fun x hx e => ?_)) (fun h => br_c (fun h2 => ⟨4, gx_find19 wf k k1 k0 4 0 (by omega) (by omega) (fun s hs => by omega)⟩) (fun h2 => k0 (fun x hx e => ?_)))
  · have hb := wf.2.2.1 x hx
    rw [e] at h
    exact nI_nlt (b := 1) hb.1 (by omega) h
  · have hb := wf.2.2.1 x hx
    apply h2
    rw [e, h3]
    exact nI_le hb.2.1 (by omega)
/-! the least serial above -/
def gh_minS (S : Nat → Prop) (af : Int32) (r : Nat) : Prop := (r = 0 ∧ ∀ x, S x → ¬ af < nI x) ∨ (r ≠ 0 ∧ S r ∧ af < nI r ∧ ∀ x, S x → af < nI x → r ≤ x)
theorem gh_minS_skip {S S' : Nat → Prop} {af : Int32} {r y : Nat} (h : gh_minS S af r) (hS : ∀ x, S' x ↔ (S x ∨ x = y)) (hy : ¬ af < nI y ∨ (r ≠ 0 ∧ r ≤ y)) : gh_minS S' af r := by
  rcases h with ⟨h1, h2⟩ | ⟨h1, h2, h3, h4⟩
  · refine Or.inl ⟨h1, fun x hx => ?_⟩
    rcases (hS x).mp hx with d | d
    · exact h2 x d
    · subst d
      rcases hy with e | e
      · exact e
      · exact absurd h1 e.1
  · refine Or.inr ⟨h1, (hS r).mpr (Or.inl h2), h3, fun x hx hl => ?_⟩
    rcases (hS x).mp hx with d | d
    · exact h4 x d hl
    · subst d
      rcases hy with e | e
      · exact absurd hl e
      · exact e.2
theorem gh_minS_take {S S' : Nat → Prop} {af : Int32} {r y : Nat} (h : gh_minS S af r) (hS : ∀ x, S' x ↔ (S x ∨ x = y)) (h0 : y ≠ 0) (hy : af < nI y) (hr : r = 0 ∨ y ≤ r) : gh_minS S' af y := by
  refine Or.inr ⟨h0, (hS y).mpr (Or.inr rfl), hy, fun x hx hl => ?_⟩
  rcases (hS x).mp hx with d | d
  · rcases h with ⟨h1, h2⟩ | ⟨h1, h2, h3, h4⟩
    · exact absurd hl (h2 x d)
    · have := h4 x d hl
      omega
  · omega
theorem gh_minS_congr {S S' : Nat → Prop} {af : Int32} {r : Nat} (h : gh_minS S af r) (hS : ∀ x, S' x ↔ S x) : gh_minS S' af r := by
  have e : S' = S := funext fun x => propext (hS x)
  rw [e]; exact h
theorem gh_minS_uniq {S : Nat → Prop} {af : Int32} {r q : Nat} (h : gh_minS S af r) (h' : gh_minS S af q) : r = q := by
  rcases h with ⟨h1, h2⟩ | ⟨h1, h2, h3, h4⟩
  · rcases h' with ⟨g1, g2⟩ | ⟨g1, g2, g3, g4⟩
    · omega
    · exact absurd g3 (h2 q g2)
  · rcases h' with ⟨g1, g2⟩ | ⟨g1, g2, g3, g4⟩
    · exact absurd h3 (g2 r h2)
    · have a := h4 q g2 g3
      have b := g4 r h2 h3
      omega
theorem gx_least22 {post : Int32 → Prop} {af : Int32} {gg : Nat → Nat} {cnt : Nat} : ∀ (l : List Nat) (n b i r : Nat) (S : Nat → Prop), l.length < n → cnt = i + l.length → cnt < 2 ^ 31 → r < 2 ^ 31 → gh_lay (gh_w nr nd) A b l →
    (∀ x, x ∈ l → gx_dsc me (A x) (nr x) (nd x) (gg x) ∧ me (A x) = nI x ∧ x ≠ 0 ∧ x < 2 ^ 31) → gh_minS S af r → (∀ q, q < 2 ^ 31 → gh_minS (fun x => S x ∨ x ∈ l) af q → post (nI q)) → wX_leastAbove_22 post af (nI cnt) NL TL TA RT TS rc pF pR pP me ba ot tp ob rt rs rp fw fr sc cp ss n (nI r) (nI b) (nI i) := by
  intro l
  induction l with
  | nil =>
    intro n b i r S hn hc hc2 hr hl hx hS k
    obtain ⟨n, rfl⟩ : ∃ n', n = n' + 1 := ⟨n - 1, by omega⟩
    simp only [List.length_nil] at hc
    refine br_t (nI_le (by omega) (by omega)) (k r hr (gh_minS_congr hS (fun x => ⟨fun d => d.elim id (fun e => nomatch e), Or.inl⟩)))
  | cons x l ih =>
    intro n b i r S hn hc hc2 hr hl hx hS k
    obtain ⟨n, rfl⟩ : ∃ n', n = n' + 1 := ⟨n - 1, by omega⟩
    simp only [List.length_cons] at hc hn
    obtain ⟨hl1, hl2⟩ := hl
    obtain ⟨hd, hs, hx0, hx31⟩ := hx x (List.mem_cons_self ..)
    subst hl1
    have h392 := hd.1
    have next : ∀ q, q < 2 ^ 31 → gh_minS (fun z => S z ∨ z = x) af q → wX_leastAbove_60 post (wX_leastAbove_22 post af (nI cnt) NL TL TA RT TS rc pF pR pP me ba ot tp ob rt rs rp fw fr sc cp ss n) af (nI q) (nI (A x)) (nI cnt) (nI i) NL TL TA RT TS rc pF pR pP me ba ot tp ob rt rs rp fw fr sc cp ss := by
      intro q hq hm
      unfold wX_leastAbove_60
      refine gx_weightAt hd (nm_r (nI_add _ _) (nm_r (nI_1 i) (ih n _ (i + 1) q _ (by omega) (by omega) hc2 hq hl2 (fun y hy => hx y (List.mem_cons_of_mem _ hy)) hm (fun q2 hq2 hm2 => k q2 hq2 (gh_minS_congr hm2 (fun z => ?_))))))
      rw [List.mem_cons]
      constructor
      · rintro (d | d | d)
        · exact Or.inl (Or.inl d)
        · exact Or.inl (Or.inr d)
        · exact Or.inr d
      · rintro ((d | d) | d)
        · exact Or.inl d
        · exact Or.inr (Or.inl d)
        · exact Or.inr (Or.inr d)
    refine br_f (nI_ge (by omega) (by omega)) ⟨pk_in (A x) 392 (by omega), ?_⟩
    rw [nI_clamp (n := A x) (by omega)]
    refine nm_r hs (br_c (fun h => next r hr (gh_minS_skip hS (fun _ => Iff.rfl) (Or.inl (Int32.not_lt.mpr h)))) (fun h => ?_))
    have hlt : af < nI x := Int32.not_le.mp h
    refine pk_eq r 0 (fun e => ?_) (fun e => pk_le r x (fun h2 => next r hr (gh_minS_skip hS (fun _ => Iff.rfl) (Or.inr ⟨e, h2⟩))) (fun h2 => ?_))
    · unfold wX_leastAbove_56
      exact next x hx31 (gh_minS_take hS (fun _ => Iff.rfl) hx0 hlt (Or.inl e))
    · unfold wX_leastAbove_56
      exact next x hx31 (gh_minS_take hS (fun _ => Iff.rfl) hx0 hlt (Or.inr (by omega)))
theorem gx_next4 {post : Int32 → Prop} {af : Int32} (wf : gh_WF N T P K ids ag nr nd rf ro la) (k : gx_K P ids ag nr nd rf da ro L A bs os c me ba ot tp ob rt rs rp)
    (kk : ∀ q, q < 2 ^ 31 → gh_minS (fun x => x ∈ ids) af q → post (nI q)) :
    ∀ (n sp r : Nat), 3 - sp < n → sp ≤ 3 → r < 2 ^ 31 → gh_minS (fun x => x ∈ ids ∧ gh_sp P (ag x) < sp) af r → wX_nextSerial_4 post af NL TL TA RT TS rc pF pR pP me ba ot tp ob rt rs rp fw fr sc cp ss n (nI r) (nI sp) := by
  intro n
  induction n with
  | zero => intro sp r h; omega
  | succ n ih =>
    intro sp r hn hs hr hm
    refine pk_le 3 sp (fun h => kk r hr (gh_minS_congr hm (fun x => ⟨fun d => ⟨d, ?_⟩, fun d => d.1⟩))) (fun h => ?_)
    · have h3 : gh_sp P (ag x) < 3 := gh_sp3
      omega
    · obtain ⟨h1, h2, h3, h4, h5, h6, h7⟩ := k.2.2.1 sp h
      have hl := gx_Llen wf k h
      have hla : la ≤ 1000000 := wf.1.2.2.2.2.2.2.2.2
      unfold wpX_leastAbove
      refine ⟨pk_in sp 3 h, ?_⟩
      rw [nI_clamp (n := sp) (by omega)]
      refine nm_r h4 ⟨pk_in sp 3 h, nm_r h7 ⟨(L sp).length + 1, ?_⟩⟩
      refine gx_least22 (nd := nd) (gg := ag) (L sp) ((L sp).length + 1) (bs sp) 0 r _ (by omega) (by omega) (by omega) hr h3 (fun x hx => ?_) hm (fun q hq hq2 => nm_r (nI_1 sp) (ih (sp + 1) q (by omega) (by omega) hq (gh_minS_congr hq2 (fun x => ?_))))
      · have hx' := (h2 x).mp hx
        have hb := wf.2.2.1 x hx'.1
        exact ⟨gx_dscA wf k hx'.1, (k.2.2.2.1 x hx'.1).1, by omega, by omega⟩
      · rw [h2 x]
        constructor
        · rintro ⟨d1, d2⟩
          by_cases z : gh_sp P (ag x) = sp
          · exact Or.inr ⟨d1, z⟩
          · exact Or.inl ⟨d1, by omega⟩
        · rintro (⟨d1, d2⟩ | ⟨d1, d2⟩)
          · exact ⟨d1, by omega⟩
          · exact ⟨d1, by omega⟩
theorem gx_nextSerial {post : Int32 → Prop} {af : Int32} (wf : gh_WF N T P K ids ag nr nd rf ro la) (k : gx_K P ids ag nr nd rf da ro L A bs os c me ba ot tp ob rt rs rp)
    (kk : ∀ q, q < 2 ^ 31 → gh_minS (fun x => x ∈ ids) af q → post (nI q)) : wpX_nextSerial post (NL, TL, TA, RT, TS, rc, pF, pR, pP, me, ba, ot, tp, ob, rt, rs, rp, fw, fr, sc, cp, ss) af := by
  unfold wpX_nextSerial
  exact ⟨4, gx_next4 wf k kk 4 0 0 (by omega) (by omega) (by omega) (Or.inl ⟨rfl, fun x hx => by omega⟩)⟩
/-! the number of crossings -/
noncomputable def gx_ncr (me : Nat → Int32) (A nr : Nat → Nat) (x : Nat) : Nat := gh_N (fun j => if gh_bl (gx_yI (me (A x + 2 + j))) = true then 1 else 0) (nr x)
noncomputable def gx_cl (me : Nat → Int32) (A nr : Nat → Nat) : List Nat → List Nat
  | [] => []
  | x :: l => ((List.range (nr x)).filter (fun j => gh_bl (gx_yI (me (A x + 2 + j))))).map (fun j => A x + 2 + j) ++ gx_cl me A nr l
theorem gx_cl_len {l : List Nat} : (gx_cl me A nr l).length = gh_S (gx_ncr me A nr) l := by
  induction l with
  | nil => rfl
  | cons x l ih =>
    simp only [gx_cl, List.length_append, List.length_map, gh_S, ih]
    congr 1
    rw [← gh_S_1, gh_S_flt, ← gh_N_S]
    rfl
theorem gx_cl_mem {l : List Nat} {a : Nat} : a ∈ gx_cl me A nr l ↔ gx_cross l A nr me a := by
  induction l with
  | nil => exact ⟨(fun h => nomatch h), (fun ⟨x, hx, _⟩ => nomatch hx)⟩
  | cons x l ih =>
    simp only [gx_cl, List.mem_append, ih, List.mem_map, List.mem_filter, List.mem_range, gh_bl_iff]
    constructor
    · rintro (⟨j, ⟨hj, hy⟩, e⟩ | ⟨z, hz, d⟩)
      · subst e
        exact ⟨x, List.mem_cons_self .., j, hj, rfl, hy⟩
      · exact ⟨z, List.mem_cons_of_mem _ hz, d⟩
    · rintro ⟨z, hz, j, hj, e, hy⟩
      rcases List.mem_cons.mp hz with d | d
      · subst d
        subst e
        exact Or.inl ⟨j, ⟨hj, hy⟩, rfl⟩
      · exact Or.inr ⟨z, d, j, hj, e, hy⟩
theorem gx_cl_nodup : ∀ (l : List Nat) (b : Nat), gh_lay (gh_w nr nd) A b l → (gx_cl me A nr l).Nodup := by
  intro l
  induction l with
  | nil => intro b _; exact List.nodup_nil
  | cons x l ih =>
    intro b hl
    obtain ⟨hl1, hl2⟩ := hl
    simp only [gx_cl]
    rw [List.nodup_append]
    refine ⟨?_, ih _ hl2, ?_⟩
    · rw [List.nodup_iff_pairwise_ne, List.pairwise_map]
      refine List.Pairwise.imp_of_mem ?_ (List.nodup_iff_pairwise_ne.mp (List.Nodup.sublist (List.filter_sublist ..) (List.nodup_range (n := nr x))))
      intro p q _ _ hne e
      omega
    · intro p hp q hq e
      subst e
      obtain ⟨j, hj, e⟩ := List.mem_map.mp hp
      have hj' := List.mem_range.mp (List.mem_filter.mp hj).1
      obtain ⟨z, hz, i, hi, e2, _⟩ := gx_cl_mem.mp hq
      have := gh_lay_in _ _ z hl2 hz
      have hw : gh_w nr nd x = 2 + nr x + nd x := rfl
      omega
noncomputable def gh_ncr (P : Nat) (ids : List Nat) (ag nr : Nat → Nat) (rf : Nat → Nat → Nat) (x : Nat) : Nat := gh_N (fun j => if gh_bl (gh_elM P ids ag (rf x j)) = true then 1 else 0) (nr x)
theorem gx_ccount (wf : gh_WF N T P K ids ag nr nd rf ro la) (k : gx_K P ids ag nr nd rf da ro L A bs os c me ba ot tp ob rt rs rp) : c = gh_S (fun x => if P ≤ ag x then gh_ncr P ids ag nr rf x else 0) ids := by
  obtain ⟨s, p, hr, hQ⟩ := k.2.2.2.2.2
  have h2 := k.2.2.1 2 (by omega)
  have hl : ((List.range c).map s).length = (gx_cl me A nr (L 2)).length := by
    apply gh_len_eq
    · rw [List.nodup_iff_pairwise_ne, List.pairwise_map]
      refine List.Pairwise.imp_of_mem ?_ (List.nodup_iff_pairwise_ne.mp (List.nodup_range (n := c)))
      intro a b ha hb hne e
      have ea := (hr.2.1 a (List.mem_range.mp ha)).2.2
      have eb := (hr.2.1 b (List.mem_range.mp hb)).2.2
      rw [e, eb] at ea
      omega
    · exact gx_cl_nodup _ _ h2.2.2.1
    · intro a
      rw [gx_cl_mem, hQ a, List.mem_map]
      constructor
      · rintro ⟨i, hi, e⟩
        have := hr.2.1 i (List.mem_range.mp hi)
        subst e
        exact ⟨this.2.1, by omega⟩
      · rintro ⟨ha, hp⟩
        have := hr.2.2 a ha
        exact ⟨p a - 1, List.mem_range.mpr (by omega), this.2.2 hp⟩
  rw [List.length_map, List.length_range, gx_cl_len] at hl
  rw [hl]
  have e1 : gh_S (gx_ncr me A nr) (L 2) = gh_S (gh_ncr P ids ag nr rf) (L 2) := by
    apply gh_S_congr
    intro x hx
    have hx' := (gx_L2P wf k).mp hx
    unfold gx_ncr gh_ncr
    apply gh_N_congr
    intro j hj
    have := gx_cr wf k hx'.1 hj
    by_cases z : gh_elM P ids ag (rf x j)
    · rw [if_pos (gh_bl_iff.mpr z), if_pos (gh_bl_iff.mpr (this.mpr z))]
    · rw [if_neg (fun d => z (gh_bl_iff.mp d)), if_neg (fun d => z (this.mp (gh_bl_iff.mp d)))]
  rw [e1]
  refine gh_S_eq h2.1 wf.2.1 (fun x hx => ?_) (fun x hx hn => ?_)
  · have hx' := (gx_L2P wf k).mp hx
    rw [if_pos hx'.2]
    exact ⟨hx'.1, rfl⟩
  · rw [if_neg]
    intro d
    exact hn ((gx_L2P wf k).mpr ⟨hx, d⟩)
end
end
section
/-! the model: allocation, crossings, next serial -/
section
variable {yn yt yp yk yLk yLf yLp yLs yMi yFu ySt yOv : Int32} {ySe yAg yNr yNd yRc yDc yRo yMk : Nat → Int32} {ids : List Nat} {ag nr nd : Nat → Nat} {rf : Nat → Nat → Nat} {da : Nat → Nat → Int32} {ro : Nat → Nat} {N T P K la : Nat} {se : Nat → Nat} {st : Nat → Int32}
theorem gy_badR1 {post : Int32 → Prop} {j : Nat} (hK : K ≤ 8) (hj : j < K) (k : post 0) : wpY_badRoot post (yn, yt, yp, nI K, yLk, yLf, yLp, yLs, yMi, yFu, ySt, yOv, ySe, yAg, yNr, yNd, yRc, yDc, yRo, yMk) (nI j) := by
  unfold wpY_badRoot
  exact br_f (nI_pos (by omega)) (br_t (nI_lt hj (by omega)) k)
theorem gy_badR0 {post : Int32 → Prop} {p0 : Int32} (hK : K ≤ 8) (h : ∀ j, j < K → p0 ≠ nI j) (k : post 1) : wpY_badRoot post (yn, yt, yp, nI K, yLk, yLf, yLp, yLs, yMi, yFu, ySt, yOv, ySe, yAg, yNr, yNd, yRc, yDc, yRo, yMk) p0 := by
  unfold wpY_badRoot
  refine br_c (fun _ => k) (fun h0 => br_c (fun h1 => ?_) (fun _ => k))
  obtain ⟨j, hj, rfl⟩ := nI_of h0
  exact absurd rfl (h j ((nI_ltI hj (by omega)).mp h1))
theorem gy_refusal {post : Int32 → Prop} {v1 v2 v3 : Int32} (k : post (gh_rfs yk v1 v2 v3 yLs)) : wpY_refusal post (yn, yt, yp, yk, yLk, yLf, yLp, yLs, yMi, yFu, ySt, yOv, ySe, yAg, yNr, yNd, yRc, yDc, yRo, yMk) v1 v2 v3 := by
  unfold wpY_refusal wpY_badRoot
  unfold gh_rfs at k
  by_cases h1 : v1 < 0
  · rw [if_pos h1] at k
    exact br_t h1 (br_f (by decide) k)
  · rw [if_neg h1] at k
    refine br_f h1 ?_
    by_cases h2 : yk ≤ v1
    · rw [if_pos h2] at k
      exact br_f (Int32.not_lt.mpr h2) (br_f (by decide) k)
    · rw [if_neg h2] at k
      refine br_t (Int32.not_le.mp h2) (br_t rfl ?_)
      by_cases h3 : v2 < 0
      · rw [if_pos h3] at k
        exact br_t h3 k
      · rw [if_neg h3] at k
        refine br_f h3 ?_
        by_cases h4 : 3 < v2
        · rw [if_pos h4] at k
          exact br_t h4 k
        · rw [if_neg h4] at k
          refine br_f h4 ?_
          by_cases h5 : v3 < 0
          · rw [if_pos h5] at k
            exact br_t h5 k
          · rw [if_neg h5] at k
            refine br_f h5 ?_
            by_cases h6 : v3 ≤ 2
            · rw [if_pos h6] at k
              refine br_t h6 ?_
              by_cases h7 : yLs = 1000000
              · rw [if_pos h7] at k
                exact br_t h7 k
              · rw [if_neg h7] at k
                exact br_f h7 k
            · rw [if_neg h6] at k
              exact br_f h6 k
theorem gy_make97 {post : Int32 → SY → Prop} {i s : Nat} (hi : i < 8) (hs : s < 80)
    (k : ∀ q, (∀ a, q a = if 2 * s ≤ a ∧ a < 2 * s + 2 then 0 else yDc a) → post yLs (yn, yt, yp, yk, yLk, yLf, yLp, yLs, yMi, yFu, ySt, yOv, ySe, yAg, yNr, yNd, yRc, q, upd yRo i yLs, yMk)) :
    ∀ (n j : Nat) (q : Nat → Int32), 2 - j < n → j ≤ 2 → (∀ a, q a = if 2 * s ≤ a ∧ a < 2 * s + j then 0 else yDc a) → wY_make_97 post (nI i) (nI s) yn yt yp yk yLk yLf yLp yLs yMi yFu ySt yOv n (nI j) ySe yAg yNr yNd yRc q yRo yMk := by
  intro n
  induction n with
  | zero => intro j q h; omega
  | succ n ih =>
    intro j q hn hj hq
    refine pk_le 2 j (fun h => ⟨pk_in i 8 hi, ?_⟩) (fun h => ?_)
    · have : j = 2 := by omega
      subst this
      rw [nI_clamp (n := i) (by omega)]
      exact nm_e (k q hq)
    · have e : (2 : Int32) * nI s + nI j = nI (2 * s + j) := by rw [← nI_add, ← pk_mul]; rfl
      rw [e]
      refine ⟨pk_in (2 * s + j) 160 (by omega), ?_⟩
      rw [nI_clamp (n := 2 * s + j) (by omega)]
      refine nm_e (nm_r (nI_1 j) (ih (j + 1) _ (by omega) (by omega) (fun a => ?_)))
      by_cases z : a = 2 * s + j
      · subst z
        rw [pk_us, if_pos (by omega)]
      · rw [pk_un z, hq]
        by_cases z2 : 2 * s ≤ a ∧ a < 2 * s + j
        · rw [if_pos z2, if_pos (by omega)]
        · rw [if_neg z2, if_neg (by omega)]
theorem gy_make69 {post : Int32 → SY → Prop} {i s : Nat} (hi : i < 8) (hs : s < 80)
    (k : ∀ p q, (∀ a, p a = if 3 * s ≤ a ∧ a < 3 * s + 3 then 0 else yRc a) → (∀ a, q a = if 2 * s ≤ a ∧ a < 2 * s + 2 then 0 else yDc a) → post yLs (yn, yt, yp, yk, yLk, yLf, yLp, yLs, yMi, yFu, ySt, yOv, ySe, yAg, yNr, yNd, p, q, upd yRo i yLs, yMk)) :
    ∀ (n j : Nat) (p : Nat → Int32), 3 - j < n → j ≤ 3 → (∀ a, p a = if 3 * s ≤ a ∧ a < 3 * s + j then 0 else yRc a) → wY_make_69 post (nI i) (nI s) yn yt yp yk yLk yLf yLp yLs yMi yFu ySt yOv n (nI j) ySe yAg yNr yNd p yDc yRo yMk := by
  intro n
  induction n with
  | zero => intro j p h; omega
  | succ n ih =>
    intro j p hn hj hp
    refine pk_le 3 j (fun h => ⟨3, ?_⟩) (fun h => ?_)
    · have : j = 3 := by omega
      subst this
      exact gy_make97 hi hs (fun q hq => k p q hp hq) 3 0 yDc (by omega) (by omega) (fun a => by rw [if_neg (by omega)])
    · have e : (3 : Int32) * nI s + nI j = nI (3 * s + j) := by rw [← nI_add, ← pk_mul]; rfl
      rw [e]
      refine ⟨pk_in (3 * s + j) 240 (by omega), ?_⟩
      rw [nI_clamp (n := 3 * s + j) (by omega)]
      refine nm_e (nm_r (nI_1 j) (ih (j + 1) _ (by omega) (by omega) (fun a => ?_)))
      by_cases z : a = 3 * s + j
      · subst z
        rw [pk_us, if_pos (by omega)]
      · rw [pk_un z, hp]
        by_cases z2 : 3 * s ≤ a ∧ a < 3 * s + j
        · rw [if_pos z2, if_pos (by omega)]
        · rw [if_neg z2, if_neg (by omega)]
theorem gy_make3 {post : Int32 → SY → Prop} {i r d g : Nat} (hb : gh_bd P ids ag nr nd) (hT : gy_T ids ag nr nd rf da se ySe yAg yNr yNd yRc yDc) (hi : i < 8) (hfree : ∃ s, s < 80 ∧ se s = 0)
    (k : ∀ s p q, s < 80 → se s = 0 → (∀ a, p a = if 3 * s ≤ a ∧ a < 3 * s + 3 then 0 else yRc a) → (∀ a, q a = if 2 * s ≤ a ∧ a < 2 * s + 2 then 0 else yDc a) →
      post (yLs + 1) (yn, yt, yp, yk, yLk, yLf, yLp, yLs + 1, yMi, yFu, ySt, yOv, upd ySe s (yLs + 1), upd yAg s (nI g), upd yNr s (nI r), upd yNd s (nI d), p, q, upd yRo i (yLs + 1), yMk)) :
    ∀ (n s : Nat), 80 - s < n → s ≤ 80 → (∀ t, t < s → se t ≠ 0) → wY_make_3 post (nI i) (nI r) (nI d) (nI g) yn yt yp yk yLk yLf yLp yLs yMi yFu ySt yOv ySe yAg yNr yNd yRc yDc yRo yMk n (nI s) := by
  intro n
  induction n with
  | zero => intro s h; omega
  | succ n ih =>
    intro s hn hs ha
    refine pk_le 80 s (fun h => ?_) (fun h => ⟨pk_in s 80 h, ?_⟩)
    · obtain ⟨t, ht, e⟩ := hfree
      exact absurd e (ha t (by omega))
    · rw [nI_clamp (n := s) (by omega), hT.1 s h]
      by_cases z : se s = 0
      · refine br_t (by rw [z]; rfl) (nm_e ⟨pk_in s 80 h, nm_e ⟨pk_in s 80 h, nm_e ⟨pk_in s 80 h, nm_e ⟨pk_in s 80 h, nm_e ⟨4, ?_⟩⟩⟩⟩⟩)
        exact gy_make69 hi h (fun p q hp hq => k s p q h z hp hq) 4 0 yRc (by omega) (by omega) (fun a => by rw [if_neg (by omega)])
      · have hx := hb.2.2 _ (hT.2.1 s h z).1
        refine br_f (nI_ne0 (by omega) (by omega)) (nm_r (nI_1 s) (ih (s + 1) (by omega) (by omega) (fun t ht => ?_)))
        by_cases e : t = s
        · subst e; exact z
        · exact ha t (by omega)
theorem gy_free (hb : gh_bd P ids ag nr nd) (hT : gy_T ids ag nr nd rf da se ySe yAg yNr yNd yRc yDc) (hl : ids.length < 80) : ∃ s, s < 80 ∧ se s = 0 := by
  apply Classical.byContradiction
  intro hc
  have hne : ∀ s, s < 80 → se s ≠ 0 := fun s hs e => hc ⟨s, hs, e⟩
  have h : ((List.range 80).map se).length ≤ ids.length := by
    apply gh_len_le
    · rw [List.nodup_iff_pairwise_ne, List.pairwise_map]
      refine List.Pairwise.imp_of_mem ?_ (List.nodup_iff_pairwise_ne.mp (List.nodup_range (n := 80)))
      intro a b ha hb hne' e
      have ha' := List.mem_range.mp ha
      exact hne' (hT.2.2.2 a b ha' (List.mem_range.mp hb) (hne a ha') e)
    · intro x hx
      obtain ⟨s, hs, e⟩ := List.mem_map.mp hx
      have hs' := List.mem_range.mp hs
      subst e
      exact (hT.2.1 s hs' (hne s hs')).1
  rw [List.length_map, List.length_range] at h
  omega
theorem gy_T_al (hT : gy_T ids ag nr nd rf da se ySe yAg yNr yNd yRc yDc) {s r d g : Nat} {p q : Nat → Int32} (hs : s < 80) (h0 : se s = 0) (hids : ∀ x, x ∈ ids → 1 ≤ x ∧ x ≤ la) (hbd : ∀ x, x ∈ ids → nr x ≤ 3 ∧ nd x ≤ 2) (hr : r ≤ 3) (hd : d ≤ 2)
    (hp : ∀ a, p a = if 3 * s ≤ a ∧ a < 3 * s + 3 then 0 else yRc a) (hq : ∀ a, q a = if 2 * s ≤ a ∧ a < 2 * s + 2 then 0 else yDc a) :
    gy_T (ids ++ [la + 1]) (gh_u ag (la + 1) g) (gh_u nr (la + 1) r) (gh_u nd (la + 1) d) (gh_u rf (la + 1) (fun _ => 0)) (gh_u da (la + 1) (fun _ => 0)) (gh_u se s (la + 1)) (upd ySe s (nI (la + 1))) (upd yAg s (nI g)) (upd yNr s (nI r)) (upd yNd s (nI d)) p q := by
  obtain ⟨h1, h2, h3, h4⟩ := hT
  have hne : ∀ x, x ∈ ids → x ≠ la + 1 := fun x hx e => by have := (hids x hx).2; omega
  refine ⟨fun t ht => ?_, fun t ht t0 => ?_, fun x hx => ?_, fun a b ha hb a0 e => ?_⟩
  · by_cases z : t = s
    · subst z; rw [pk_us, gh_us]
    · rw [pk_un z, gh_un z]; exact h1 t ht
  · by_cases z : t = s
    · subst z
      rw [gh_us, pk_us, pk_us, pk_us, gh_us, gh_us, gh_us, gh_us, gh_us]
      refine ⟨List.mem_append.mpr (Or.inr (List.mem_singleton.mpr rfl)), rfl, rfl, rfl, fun i hi => ?_, fun i hi => ?_⟩
      · rw [hp, if_pos (by omega)]; rfl
      · rw [hq, if_pos (by omega)]
    · rw [gh_un z] at t0 ⊢
      obtain ⟨g1, g2, g3, g4, g5, g6⟩ := h2 t ht t0
      have hb := hbd _ g1
      rw [pk_un z, pk_un z, pk_un z, gh_un (hne _ g1), gh_un (hne _ g1), gh_un (hne _ g1), gh_un (hne _ g1), gh_un (hne _ g1)]
      refine ⟨List.mem_append.mpr (Or.inl g1), g2, g3, g4, fun i hi => ?_, fun i hi => ?_⟩
      · rw [hp, if_neg (by omega)]; exact g5 i hi
      · rw [hq, if_neg (by omega)]; exact g6 i hi
  · rcases List.mem_append.mp hx with e | e
    · obtain ⟨t, ht, et⟩ := h3 x e
      have := (hids x e).1
      refine ⟨t, ht, ?_⟩
      rw [gh_un]
      · exact et
      · intro c
        rw [c, h0] at et
        omega
    · rw [List.mem_singleton] at e
      exact ⟨s, hs, by rw [gh_us, e]⟩
  · by_cases za : a = s
    · by_cases zb : b = s
      · omega
      · subst za
        rw [gh_us, gh_un zb] at e
        have e0 : se b ≠ 0 := by omega
        have := hids _ (h2 b hb e0).1
        omega
    · by_cases zb : b = s
      · subst zb
        rw [gh_us, gh_un za] at e
        have e0 : se a ≠ 0 := by omega
        have := hids _ (h2 a ha e0).1
        omega
      · rw [gh_un za, gh_un zb] at e
        rw [gh_un za] at a0
        exact h4 a b ha hb a0 e
theorem gy_make {post : Int32 → SY → Prop} {i r d g : Nat} (wf : gh_WF N T P K ids ag nr nd rf ro la) (h : gy_R N T P K ids ag nr nd rf da ro st (yn, yt, yp, yk, yLk, yLf, yLp, yLs, yMi, yFu, ySt, yOv, ySe, yAg, yNr, yNd, yRc, yDc, yRo, yMk)) (h3 : st 3 = nI la) (hl : ids.length < 80) (hi : i < K) (hr : r ≤ 3) (hd : d ≤ 2)
    (kk : ∀ v, gy_R N T P K (ids ++ [la + 1]) (gh_u ag (la + 1) g) (gh_u nr (la + 1) r) (gh_u nd (la + 1) d) (gh_u rf (la + 1) (fun _ => 0)) (gh_u da (la + 1) (fun _ => 0)) (gh_u ro i (la + 1)) (upd st 3 (st 3 + 1)) v → post (nI (la + 1)) v) :
    wpY_make post (yn, yt, yp, yk, yLk, yLf, yLp, yLs, yMi, yFu, ySt, yOv, ySe, yAg, yNr, yNd, yRc, yDc, yRo, yMk) (nI i) (nI r) (nI d) (nI g) := by
  have hb := gh_bd_of wf
  have hK8 : K ≤ 8 := wf.1.2.2.2.2.2.2.2.1
  obtain ⟨⟨e1, e2, e3, e4⟩, ⟨s0, s1, s2, s3, s4, s5, s6, s7⟩, hro, se, hT⟩ := h
  subst e1 e2 e3 e4 s0 s1 s2 s3 s4 s5 s6 s7
  have e3 : st 3 + 1 = nI (la + 1) := by rw [h3, nI_1]
  unfold wpY_make
  refine ⟨81, gy_make3 hb hT (by omega) (gy_free hb hT hl) (fun s p q hs hs0 hp hq => ?_) 81 0 (by omega) (by omega) (fun t ht => by omega)⟩
  rw [e3]
  refine kk _ ⟨⟨rfl, rfl, rfl, rfl⟩, ⟨rfl, rfl, rfl, ?_, rfl, rfl, rfl, rfl⟩, ?_, _, gy_T_al hT hs hs0 (fun x hx => ⟨(wf.2.2.1 x hx).1, (wf.2.2.1 x hx).2.1⟩) (fun x hx => ⟨(wf.2.2.1 x hx).2.2.1, (wf.2.2.1 x hx).2.2.2.1⟩) hr hd hp hq⟩
  · rw [pk_us, e3]
  · intro r' hr'
    by_cases z : r' = i
    · subst z; rw [pk_us, gh_us]
    · rw [pk_un z, gh_un z]; exact hro r' hr'
/-! crossings -/
theorem gy_cross34 {post : Int32 → Prop} {J4 : Int32 → Int32 → Prop} {s ac : Nat} (hb : gh_bd P ids ag nr nd) (hT : gy_T ids ag nr nd rf da se ySe yAg yNr yNd yRc yDc) (hp : yp = nI P) (hrf : ∀ x i, x ∈ ids → i < nr x → rf x i = 0 ∨ rf x i ∈ ids) (hs : s < 80) (h0 : se s ≠ 0)
    (k : J4 (nI (ac + gh_ncr P ids ag nr rf (se s))) (nI (s + 1))) :
    ∀ (n i : Nat), nr (se s) - i < n → i ≤ nr (se s) → wY_crossings_34 post J4 (nI s) yn yt yp yk yLk yLf yLp yLs yMi yFu ySt yOv ySe yAg yNr yNd yRc yDc yRo yMk n (nI (ac + gh_N (fun j => if gh_bl (gh_elM P ids ag (rf (se s) j)) = true then 1 else 0) i)) (nI i) := by
  intro n
  induction n with
  | zero => intro i h; omega
  | succ n ih =>
    intro i hn hi
    obtain ⟨hid, e1, e2, e3, e4, _⟩ := hT.2.1 s hs h0
    have hx := hb.2.2 _ hid
    have hP := hb.2.1
    refine ⟨pk_in s 80 hs, ?_⟩
    rw [nI_clamp (n := s) (by omega), e2]
    refine pk_le (nr (se s)) i (fun h => nm_r (nI_1 s) ?_) (fun h => ?_)
    · have : i = nr (se s) := by omega
      subst this
      exact k
    · have I := ih (i + 1) (by omega) (by omega)
      have ei : (3 : Int32) * nI s + nI i = nI (3 * s + i) := by rw [← nI_add, ← pk_mul]; rfl
      rw [ei]
      refine ⟨pk_in (3 * s + i) 240 (by omega), ?_⟩
      rw [nI_clamp (n := 3 * s + i) (by omega), e4 i h]
      have skip : ¬ gh_elM P ids ag (rf (se s) i) → wY_crossings_34 post J4 (nI s) yn yt yp yk yLk yLf yLp yLs yMi yFu ySt yOv ySe yAg yNr yNd yRc yDc yRo yMk n (nI (ac + gh_N (fun j => if gh_bl (gh_elM P ids ag (rf (se s) j)) = true then 1 else 0) i)) (nI (i + 1)) := by
        intro c
        simp only [gh_N, if_neg (fun d => c (gh_bl_iff.mp d)), Nat.add_zero] at I
        exact I
      refine gy_findN hb hT (hrf _ i hid h) (fun t ht hy et => br_f (nI_pos (by omega)) ⟨pk_in t 80 ht, ?_⟩) (fun z => br_t (by decide) (nm_r (nI_1 i) (skip (fun c => ?_))))
      · have ht0 : se t ≠ 0 := by have := hb.2.2 _ hy; omega
        have hy3 := hb.2.2 _ hy
        rw [nI_clamp (n := t) (by omega), (hT.2.1 t ht ht0).2.1, et]
        refine pk_le P (ag (rf (se s) i)) (fun h2 => nm_r (nI_1 i) (skip (fun c => by have := c.2; omega))) (fun h2 => nm_r (nI_1 _) (nm_r (nI_1 i) ?_)) hp
        have c : gh_elM P ids ag (rf (se s) i) := ⟨hy, h2⟩
        simp only [gh_N, if_pos (gh_bl_iff.mpr c)] at I
        rw [Nat.add_assoc]
        exact I
      · have := (hb.2.2 _ c.1).1
        omega
theorem gy_cross4 {post : Int32 → Prop} (hb : gh_bd P ids ag nr nd) (hT : gy_T ids ag nr nd rf da se ySe yAg yNr yNd yRc yDc) (hp : yp = nI P) (hrf : ∀ x i, x ∈ ids → i < nr x → rf x i = 0 ∨ rf x i ∈ ids)
    (k : post (nI (gh_N (fun s => if se s = 0 then 0 else if P ≤ ag (se s) then gh_ncr P ids ag nr rf (se s) else 0) 80))) :
    ∀ (n s : Nat), 80 - s < n → s ≤ 80 → wY_crossings_4 post yn yt yp yk yLk yLf yLp yLs yMi yFu ySt yOv ySe yAg yNr yNd yRc yDc yRo yMk n (nI (gh_N (fun s => if se s = 0 then 0 else if P ≤ ag (se s) then gh_ncr P ids ag nr rf (se s) else 0) s)) (nI s) := by
  intro n
  induction n with
  | zero => intro s h; omega
  | succ n ih =>
    intro s hn hs
    refine pk_le 80 s (fun h => ?_) (fun h => ⟨pk_in s 80 h, ?_⟩)
    · have : s = 80 := by omega
      subst this
      exact k
    · have I := ih (s + 1) (by omega) (by omega)
      rw [nI_clamp (n := s) (by omega), hT.1 s h]
      by_cases z : se s = 0
      · refine br_t (by rw [z]; rfl) (nm_r (nI_1 s) ?_)
        simp only [gh_N, if_pos z, Nat.add_zero] at I
        exact I
      · obtain ⟨hid, e1, _⟩ := hT.2.1 s h z
        have hx := hb.2.2 _ hid
        have hP := hb.2.1
        refine br_f (nI_ne0 (by omega) (by omega)) ⟨pk_in s 80 h, ?_⟩
        rw [e1]
        refine pk_lt (ag (se s)) P (fun h2 => nm_r (nI_1 s) ?_) (fun h2 => ⟨nr (se s) + 1, ?_⟩) rfl hp
        · simp only [gh_N, if_neg z, if_neg (show ¬ P ≤ ag (se s) by omega), Nat.add_zero] at I
          exact I
        · simp only [gh_N, if_neg z, if_pos h2] at I
          exact gy_cross34 hb hT hp hrf h z I (nr (se s) + 1) 0 (by omega) (by omega)
theorem gy_crossings {post : Int32 → Prop} (hn : ids.Nodup) (hb : gh_bd P ids ag nr nd) (hT : gy_T ids ag nr nd rf da se ySe yAg yNr yNd yRc yDc) (hp : yp = nI P) (hrf : ∀ x i, x ∈ ids → i < nr x → rf x i = 0 ∨ rf x i ∈ ids)
    (k : post (nI (gh_S (fun x => if P ≤ ag x then gh_ncr P ids ag nr rf x else 0) ids))) : wpY_crossings post (yn, yt, yp, yk, yLk, yLf, yLp, yLs, yMi, yFu, ySt, yOv, ySe, yAg, yNr, yNd, yRc, yDc, yRo, yMk) := by
  have e := gy_sum hn (fun x hx => by have := hb.2.2 x hx; omega) hT (fun x => if P ≤ ag x then gh_ncr P ids ag nr rf x else 0)
  rw [← e] at k
  unfold wpY_crossings
  exact ⟨81, gy_cross4 hb hT hp hrf k 81 0 (by omega) (by omega)⟩
/-! the least serial above -/
theorem gy_next4 {post : Int32 → Prop} {af : Int32} (hb : gh_bd P ids ag nr nd) (hT : gy_T ids ag nr nd rf da se ySe yAg yNr yNd yRc yDc)
    (k : ∀ q, q < 2 ^ 31 → gh_minS (fun x => x ∈ ids) af q → post (nI q)) :
    ∀ (n s r : Nat), 80 - s < n → s ≤ 80 → r < 2 ^ 31 → gh_minS (fun x => ∃ t, t < s ∧ se t ≠ 0 ∧ x = se t) af r → wY_nextSerial_4 post af yn yt yp yk yLk yLf yLp yLs yMi yFu ySt yOv ySe yAg yNr yNd yRc yDc yRo yMk n (nI r) (nI s) := by
  intro n
  induction n with
  | zero => intro s r h; omega
  | succ n ih =>
    intro s r hn hs hr hm
    refine pk_le 80 s (fun h => k r hr (gh_minS_congr hm (fun x => ⟨fun d => ?_, fun d => ?_⟩))) (fun h => ⟨pk_in s 80 h, ?_⟩)
    · obtain ⟨t, ht, et⟩ := hT.2.2.1 x d
      have := hb.2.2 x d
      exact ⟨t, by omega, by omega, et.symm⟩
    · obtain ⟨t, ht, t0, et⟩ := d
      rw [et]
      exact (hT.2.1 t (by omega) t0).1
    · rw [nI_clamp (n := s) (by omega)]
      refine nm_r (hT.1 s h) ?_
      by_cases z : se s = 0
      · refine br_t (by rw [z]; rfl) (nm_r (nI_1 s) (ih (s + 1) r (by omega) (by omega) hr (gh_minS_congr hm (fun x => ⟨?_, ?_⟩))))
        · rintro ⟨t, ht, t0, et⟩
          have : t ≠ s := fun e => t0 (e ▸ z)
          exact ⟨t, by omega, t0, et⟩
        · rintro ⟨t, ht, t0, et⟩
          exact ⟨t, by omega, t0, et⟩
      · have hx := hb.2.2 _ (hT.2.1 s h z).1
        have hS : ∀ x, (∃ t, t < s + 1 ∧ se t ≠ 0 ∧ x = se t) ↔ ((∃ t, t < s ∧ se t ≠ 0 ∧ x = se t) ∨ x = se s) := by
          intro x
          constructor
          · rintro ⟨t, ht, t0, et⟩
            by_cases e : t = s
            · subst e; exact Or.inr et
            · exact Or.inl ⟨t, by omega, t0, et⟩
          · rintro (⟨t, ht, t0, et⟩ | e)
            · exact ⟨t, by omega, t0, et⟩
            · exact ⟨s, by omega, z, e⟩
        refine br_f (nI_ne0 (by omega) (by omega)) (br_c (fun h2 => nm_r (nI_1 s) (ih (s + 1) r (by omega) (by omega) hr (gh_minS_skip hm hS (Or.inl (Int32.not_lt.mpr h2))))) (fun h2 => ?_))
        have hlt : af < nI (se s) := Int32.not_le.mp h2
        refine pk_eq r 0 (fun e => nm_r (nI_1 s) (ih (s + 1) (se s) (by omega) (by omega) (by omega) (gh_minS_take hm hS z hlt (Or.inl e)))) (fun e => pk_le r (se s) (fun h3 => nm_r (nI_1 s) (ih (s + 1) r (by omega) (by omega) hr (gh_minS_skip hm hS (Or.inr ⟨e, h3⟩)))) (fun h3 => nm_r (nI_1 s) (ih (s + 1) (se s) (by omega) (by omega) (by omega) (gh_minS_take hm hS z hlt (Or.inr (by omega))))))
theorem gy_nextSerial {post : Int32 → Prop} {af : Int32} (hb : gh_bd P ids ag nr nd) (hT : gy_T ids ag nr nd rf da se ySe yAg yNr yNd yRc yDc)
    (k : ∀ q, q < 2 ^ 31 → gh_minS (fun x => x ∈ ids) af q → post (nI q)) : wpY_nextSerial post (yn, yt, yp, yk, yLk, yLf, yLp, yLs, yMi, yFu, ySt, yOv, ySe, yAg, yNr, yNd, yRc, yDc, yRo, yMk) af := by
  unfold wpY_nextSerial
  refine ⟨81, gy_next4 hb hT k 81 0 0 (by omega) (by omega) (by omega) (Or.inl ⟨rfl, fun x hx => ?_⟩)⟩
  obtain ⟨t, ht, _⟩ := hx
  omega
end
end
section
/-! what is owed: the relation, the constructors, the allocations, the collections -/
/-- the relation: both states picture one abstract heap -/
def i_Rel (k : Nat) (u : SX) (v : SY) : Prop := ∃ (N T P K la : Nat) (ids : List Nat) (ag nr nd : Nat → Nat) (rf : Nat → Nat → Nat) (da : Nat → Nat → Int32) (ro : Nat → Nat) (st : Nat → Int32),
  gh_WF N T P K ids ag nr nd rf ro la ∧ st 3 = nI la ∧ gx_R N T P K ids ag nr nd rf da ro st u ∧ gy_R N T P K ids ag nr nd rf da ro st v
theorem i_up {k : Nat} {u : SX} {v : SY} (h : i_Rel k u v) : i_Rel (k + 4) u v := h
theorem gi_el {k : Nat} {u : SX} {v : SY} {Q : SX → SY → Prop} (I : i_Rel k u v)
    (h : ∀ (N T P K la c : Nat) (ids : List Nat) (ag nr nd : Nat → Nat) (rf : Nat → Nat → Nat) (da : Nat → Nat → Int32) (ro : Nat → Nat) (st : Nat → Int32) (L : Nat → List Nat) (A bs os : Nat → Nat)
      (TS pF pR pP : Int32) (me ba ot tp ob rt rs rp fw fr sc cp : Nat → Int32) (se : Nat → Nat) (ySe yAg yNr yNd yRc yDc yRo yMk : Nat → Int32),
      gh_WF N T P K ids ag nr nd rf ro la → st 3 = nI la → gx_K P ids ag nr nd rf da ro L A bs os c me ba ot tp ob rt rs rp → (∀ r, r < 8 → yRo r = nI (ro r)) → gy_T ids ag nr nd rf da se ySe yAg yNr yNd yRc yDc →
      Q (nI N, nI T, nI P, nI K, TS, nI c, pF, pR, pP, me, ba, ot, tp, ob, rt, rs, rp, fw, fr, sc, cp, st) (nI N, nI T, nI P, nI K, st 0, st 1, st 2, st 3, st 4, st 5, st 6, st 7, ySe, yAg, yNr, yNd, yRc, yDc, yRo, yMk)) : Q u v := by
  obtain ⟨N, T, P, K, la, ids, ag, nr, nd, rf, da, ro, st, wf, h3, hX, hY⟩ := I
  obtain ⟨NL, TL, TA, RT, TS, rc, pF, pR, pP, me, ba, ot, tp, ob, rt, rs, rp, fw, fr, sc, cp, ss⟩ := u
  obtain ⟨yn, yt, yp, yk, yLk, yLf, yLp, yLs, yMi, yFu, ySt, yOv, ySe, yAg, yNr, yNd, yRc, yDc, yRo, yMk⟩ := v
  obtain ⟨⟨e1, e2, e3, e4⟩, e5, L, A, bs, os, c, e6, kx⟩ := hX
  obtain ⟨⟨f1, f2, f3, f4⟩, ⟨s0, s1, s2, s3, s4, s5, s6, s7⟩, hro, se, hT⟩ := hY
  subst e1 e2 e3 e4 e5 e6 f1 f2 f3 f4 s0 s1 s2 s3 s4 s5 s6 s7
  exact h N T P K la c ids ag nr nd rf da ro ss L A bs os TS pF pR pP me ba ot tp ob rt rs rp fw fr sc cp se ySe yAg yNr yNd yRc yDc yRo yMk wf h3 kx hro hT
/-! the constructors -/
def gh_clp (v lo hi : Int32) : Int32 := if lo ≤ v then (if v ≤ hi then v else hi) else lo
theorem gh_clpN {v : Int32} {lo hi : Nat} (h : lo ≤ hi) (hh : hi < 2 ^ 31) : ∃ n, lo ≤ n ∧ n ≤ hi ∧ gh_clp v (nI lo) (nI hi) = nI n := by
  unfold gh_clp
  by_cases h1 : nI lo ≤ v
  · rw [if_pos h1]
    by_cases h2 : v ≤ nI hi
    · rw [if_pos h2]
      have h0 : ¬ v < 0 := by
        intro c
        have := Int32.lt_of_lt_of_le c (nI_pos' (n := lo) (by omega))
        exact Int32.not_lt.mpr h1 this
      obtain ⟨n, hn, rfl⟩ := nI_of h0
      rw [nI_leI (by omega) hn] at h1
      rw [nI_leI hn hh] at h2
      exact ⟨n, h1, h2, rfl⟩
    · rw [if_neg h2]; exact ⟨hi, h, Nat.le_refl _, rfl⟩
  · rw [if_neg h1]; exact ⟨lo, Nat.le_refl _, h, rfl⟩
section
variable {NL TL TA RT TS rc pF pR pP : Int32} {me ba ot tp ob rt rs rp fw fr sc cp ss : Nat → Int32} {yn yt yp yk yLk yLf yLp yLs yMi yFu ySt yOv : Int32} {ySe yAg yNr yNd yRc yDc yRo yMk : Nat → Int32}
theorem gx_clamp {post : Int32 → Prop} {v lo hi : Int32} (k : post (gh_clp v lo hi)) : wpX_clamp post (NL, TL, TA, RT, TS, rc, pF, pR, pP, me, ba, ot, tp, ob, rt, rs, rp, fw, fr, sc, cp, ss) v lo hi := by
  unfold wpX_clamp
  unfold gh_clp at k
  by_cases h1 : lo ≤ v
  · rw [if_pos h1] at k
    refine br_t h1 ?_
    by_cases h2 : v ≤ hi
    · rw [if_pos h2] at k; exact br_t h2 k
    · rw [if_neg h2] at k; exact br_f h2 k
  · rw [if_neg h1] at k; exact br_f h1 k
theorem gy_clamp {post : Int32 → Prop} {v lo hi : Int32} (k : post (gh_clp v lo hi)) : wpY_clamp post (yn, yt, yp, yk, yLk, yLf, yLp, yLs, yMi, yFu, ySt, yOv, ySe, yAg, yNr, yNd, yRc, yDc, yRo, yMk) v lo hi := by
  unfold wpY_clamp
  unfold gh_clp at k
  by_cases h1 : lo ≤ v
  · rw [if_pos h1] at k
    refine br_t h1 ?_
    by_cases h2 : v ≤ hi
    · rw [if_pos h2] at k; exact br_t h2 k
    · rw [if_neg h2] at k; exact br_f h2 k
  · rw [if_neg h1] at k; exact br_f h1 k
end
theorem gh_WF_0 {N T P K : Nat} (h : 8 ≤ N ∧ N ≤ 32 ∧ 8 ≤ T ∧ T ≤ 64 ∧ 1 ≤ P ∧ P ≤ 3 ∧ 2 ≤ K ∧ K ≤ 8) : gh_WF N T P K [] (fun _ => 0) (fun _ => 0) (fun _ => 0) (fun _ _ => 0) (fun _ => 0) 0 :=
  ⟨⟨h.1, h.2.1, h.2.2.1, h.2.2.2.1, h.2.2.2.2.1, h.2.2.2.2.2.1, h.2.2.2.2.2.2.1, h.2.2.2.2.2.2.2, by omega⟩, List.nodup_nil, (fun x hx => nomatch hx), (fun x i hx => nomatch hx), fun r => Or.inl rfl, fun r _ => rfl, fun a _ => Nat.zero_le _, Nat.zero_le _⟩
theorem gx_K_0 {P : Nat} : gx_K P [] (fun _ => 0) (fun _ => 0) (fun _ => 0) (fun _ _ => 0) (fun _ _ => 0) (fun _ => 0) (fun _ => []) (fun _ => 0) (fun s => if s = 0 then 8 else if s = 1 then 72 else 200) (fun s => if s = 0 then 40 else if s = 1 then 136 else 296) 0
    (fun _ => 0) (upd (upd (upd (fun _ => 0) 0 8) 1 72) 2 200) (upd (upd (upd (fun _ => 0) 0 40) 1 136) 2 296) (upd (upd (upd (fun _ => 0) 0 8) 1 72) 2 200) (fun _ => 0) (fun _ => 0) (fun _ => 0) (fun _ => 0) := by
  refine ⟨rfl, ⟨Or.inl ⟨rfl, rfl⟩, Or.inl ⟨rfl, rfl⟩, Or.inl ⟨rfl, rfl⟩⟩, ?_, (fun x hx => nomatch hx), fun r _ => rfl, ?_⟩
  · intro sp hs
    refine ⟨List.nodup_nil, fun x => ⟨(fun h => nomatch h), (fun h => nomatch h.1)⟩, trivial, ?_⟩
    have : sp = 0 ∨ sp = 1 ∨ sp = 2 := by omega
    rcases this with e | e | e <;> subst e <;> exact ⟨rfl, rfl, rfl, rfl⟩
  · refine ⟨fun _ => 0, fun _ => 0, ⟨by omega, fun i hi => by omega, fun a _ => ⟨rfl, Nat.le_refl 0, fun d => absurd rfl d⟩⟩, fun a => ⟨?_, fun d => absurd rfl d.2⟩⟩
    rintro ⟨x, hx, _⟩
    cases hx
theorem gy_T_0 : gy_T [] (fun _ => 0) (fun _ => 0) (fun _ => 0) (fun _ _ => 0) (fun _ _ => 0) (fun _ => 0) (fun _ => 0) (fun _ => 0) (fun _ => 0) (fun _ => 0) (fun _ => 0) (fun _ => 0) :=
  ⟨fun s _ => rfl, fun s _ h => absurd rfl h, (fun x hx => nomatch hx), fun s t _ _ h => absurd rfl h⟩
theorem i_vc0 (k0 : Int32) (k1 : Int32) (k2 : Int32) (k3 : Int32) : wpX_init (fun u => wpY_init (fun v => i_Rel 4 u v) k0 k1 k2 k3) k0 k1 k2 k3 := by
  obtain ⟨N, n1, n2, eN⟩ := gh_clpN (v := k0) (lo := 8) (hi := 32) (by omega) (by omega)
  obtain ⟨T, t1, t2, eT⟩ := gh_clpN (v := k1) (lo := 8) (hi := 64) (by omega) (by omega)
  obtain ⟨P, p1, p2, eP⟩ := gh_clpN (v := k2) (lo := 1) (hi := 3) (by omega) (by omega)
  obtain ⟨K, q1, q2, eK⟩ := gh_clpN (v := k3) (lo := 2) (hi := 8) (by omega) (by omega)
  unfold wpX_init
  refine gx_clamp (gx_clamp (gx_clamp (gx_clamp ?_)))
  refine nm_e (nm_e (nm_e (nm_e (nm_e (nm_e (nm_e (nm_e (nm_e ?_))))))))
  unfold wpY_init
  refine gy_clamp (gy_clamp (gy_clamp (gy_clamp ?_)))
  exact ⟨N, T, P, K, 0, [], _, _, _, _, _, _, fun _ => 0, gh_WF_0 ⟨n1, n2, t1, t2, p1, p2, q1, q2⟩, rfl, ⟨⟨eN, eT, eP, eK⟩, rfl, _, _, _, _, 0, rfl, gx_K_0⟩, ⟨⟨eN, eT, eP, eK⟩, ⟨rfl, rfl, rfl, rfl, rfl, rfl, rfl, rfl⟩, fun r _ => rfl, _, gy_T_0⟩⟩
/-! the collections -/
theorem i_vc_collectMinor {k : Nat} {u : SX} {v : SY} (I : i_Rel k u v) (hk : k + 4 ≤ 2052) : wpX_collectMinor (fun r u' => wpY_collectMinor (fun r' v' => r' = r ∧ i_Rel (k + 4) u' v') v) u := by
  obtain ⟨N, T, P, K, la, ids, ag, nr, nd, rf, da, ro, st, wf, h3, hX, hY⟩ := I
  obtain ⟨NL, TL, TA, RT, TS, rc, pF, pR, pP, me, ba, ot, tp, ob, rt, rs, rp, fw, fr, sc, cp, ss⟩ := u
  obtain ⟨yn, yt, yp, yk, yLk, yLf, yLp, yLs, yMi, yFu, ySt, yOv, ySe, yAg, yNr, yNd, yRc, yDc, yRo, yMk⟩ := v
  unfold wpX_collectMinor
  refine gx_minorCollection wf hX (fun u' hu => ?_)
  obtain ⟨x1, x2, x3, x4, x5, x6, x7, x8, x9, x10, x11, x12, x13, x14, x15, x16, x17, x18, x19, x20, x21, x22⟩ := u'
  unfold wpY_collectMinor
  refine gy_runMinor wf hY (fun v' hv => ?_)
  obtain ⟨y1, y2, y3, y4, y5, y6, y7, y8, y9, y10, y11, y12, y13, y14, y15, y16, y17, y18, y19, y20⟩ := v'
  exact ⟨hv.2.1.1.trans gh_minor_0, N, T, P, K, la, _, _, nr, nd, rf, da, ro, _, gh_WF_minor wf st, (gh_minor_3 st).trans h3, hu, hv⟩
theorem i_vc_collectFull {k : Nat} {u : SX} {v : SY} (I : i_Rel k u v) (hk : k + 4 ≤ 2052) : wpX_collectFull (fun r u' => wpY_collectFull (fun r' v' => r' = r ∧ i_Rel (k + 4) u' v') v) u := by
  obtain ⟨N, T, P, K, la, ids, ag, nr, nd, rf, da, ro, st, wf, h3, hX, hY⟩ := I
  obtain ⟨NL, TL, TA, RT, TS, rc, pF, pR, pP, me, ba, ot, tp, ob, rt, rs, rp, fw, fr, sc, cp, ss⟩ := u
  obtain ⟨yn, yt, yp, yk, yLk, yLf, yLp, yLs, yMi, yFu, ySt, yOv, ySe, yAg, yNr, yNd, yRc, yDc, yRo, yMk⟩ := v
  unfold wpX_collectFull
  refine gx_fullCollection wf hX (fun u' hu => ?_)
  obtain ⟨x1, x2, x3, x4, x5, x6, x7, x8, x9, x10, x11, x12, x13, x14, x15, x16, x17, x18, x19, x20, x21, x22⟩ := u'
  unfold wpY_collectFull
  refine gy_runFull wf hY (fun v' hv => ?_)
  obtain ⟨y1, y2, y3, y4, y5, y6, y7, y8, y9, y10, y11, y12, y13, y14, y15, y16, y17, y18, y19, y20⟩ := v'
  exact ⟨hv.2.1.1.trans gh_full_0, N, T, P, K, la, _, _, nr, nd, rf, da, ro, _, gh_WF_full wf st, (gh_full_3 st).trans h3, hu, hv⟩
/-! the allocations -/
section
variable {NL TL TA RT TS rc pF pR pP : Int32} {me ba ot tp ob rt rs rp fw fr sc cp ss : Nat → Int32} {yn yt yp yk yLk yLf yLp yLs yMi yFu ySt yOv : Int32} {ySe yAg yNr yNd yRc yDc yRo yMk : Nat → Int32} {ids : List Nat} {ag nr nd : Nat → Nat} {rf : Nat → Nat → Nat} {da : Nat → Nat → Int32} {ro : Nat → Nat} {N T P K la : Nat} {st : Nat → Int32}
theorem gx_words0 {post : Int32 → Prop} (wf : gh_WF N T P K ids ag nr nd rf ro la) (h : gx_R N T P K ids ag nr nd rf da ro st (NL, TL, TA, RT, TS, rc, pF, pR, pP, me, ba, ot, tp, ob, rt, rs, rp, fw, fr, sc, cp, ss)) (k : post (nI (gh_as ag (gh_w nr nd) ids 0))) : wpX_words post (NL, TL, TA, RT, TS, rc, pF, pR, pP, me, ba, ot, tp, ob, rt, rs, rp, fw, fr, sc, cp, ss) 0 := by
  obtain ⟨_, _, L, A, bs, os, c, _, kx⟩ := h
  have h0 := kx.2.2.1 0 (by omega)
  refine gx_words (sp := 0) (by omega) h0.2.2.2.2.2.1 h0.2.2.2.1 (by omega) ?_
  rw [Nat.add_sub_cancel_left, gx_Lsum wf.2.1 kx (by omega), gh_used0]
  exact k
theorem gx_words2 {post : Int32 → Prop} (wf : gh_WF N T P K ids ag nr nd rf ro la) (h : gx_R N T P K ids ag nr nd rf da ro st (NL, TL, TA, RT, TS, rc, pF, pR, pP, me, ba, ot, tp, ob, rt, rs, rp, fw, fr, sc, cp, ss)) (k : post (nI (gh_as ag (gh_w nr nd) ids P))) : wpX_words post (NL, TL, TA, RT, TS, rc, pF, pR, pP, me, ba, ot, tp, ob, rt, rs, rp, fw, fr, sc, cp, ss) 2 := by
  obtain ⟨_, _, L, A, bs, os, c, _, kx⟩ := h
  have h0 := kx.2.2.1 2 (by omega)
  refine gx_words (sp := 2) (by omega) h0.2.2.2.2.2.1 h0.2.2.2.1 (by omega) ?_
  rw [Nat.add_sub_cancel_left, gx_Lsum wf.2.1 kx (by omega), gh_used2 (gh_bd_of wf)]
  exact k
theorem gy_words0 {post : Int32 → Prop} (wf : gh_WF N T P K ids ag nr nd rf ro la) (h : gy_R N T P K ids ag nr nd rf da ro st (yn, yt, yp, yk, yLk, yLf, yLp, yLs, yMi, yFu, ySt, yOv, ySe, yAg, yNr, yNd, yRc, yDc, yRo, yMk)) (k : post (nI (gh_as ag (gh_w nr nd) ids 0))) : wpY_used post (yn, yt, yp, yk, yLk, yLf, yLp, yLs, yMi, yFu, ySt, yOv, ySe, yAg, yNr, yNd, yRc, yDc, yRo, yMk) 0 := by
  obtain ⟨⟨_, _, e3, _⟩, _, _, se, hT⟩ := h
  refine gy_used (sp := 0) (by omega) wf.2.1 (gh_bd_of wf) hT e3 ?_
  rw [gh_used0]
  exact k
theorem gy_words2 {post : Int32 → Prop} (wf : gh_WF N T P K ids ag nr nd rf ro la) (h : gy_R N T P K ids ag nr nd rf da ro st (yn, yt, yp, yk, yLk, yLf, yLp, yLs, yMi, yFu, ySt, yOv, ySe, yAg, yNr, yNd, yRc, yDc, yRo, yMk)) (k : post (nI (gh_as ag (gh_w nr nd) ids P))) : wpY_used post (yn, yt, yp, yk, yLk, yLf, yLp, yLs, yMi, yFu, ySt, yOv, ySe, yAg, yNr, yNd, yRc, yDc, yRo, yMk) 2 := by
  obtain ⟨⟨_, _, e3, _⟩, _, _, se, hT⟩ := h
  refine gy_used (sp := 2) (by omega) wf.2.1 (gh_bd_of wf) hT e3 ?_
  rw [gh_used2 (gh_bd_of wf)]
  exact k
theorem gh_as160 (wf : gh_WF N T P K ids ag nr nd rf ro la) (a : Nat) : gh_as ag (gh_w nr nd) ids a ≤ 160 := by
  refine Nat.le_trans (gh_S_mono (fun x _ => ?_)) (gh_tot160 wf)
  by_cases c : ag x = a
  · rw [if_pos c]; exact Nat.le_refl _
  · rw [if_neg c]; exact Nat.zero_le _
theorem gh_room {dst a r d : Nat} (wf : gh_WF N T P K ids ag nr nd rf ro la) (hla : la < 1000000) (hr : r ≤ 3) (hd : d ≤ 2) (ha : a ≤ P) (hdst : dst < K)
    (h1 : a < P → gh_as ag (gh_w nr nd) ids a + (2 + r + d) ≤ N) (h2 : a = P → gh_as ag (gh_w nr nd) ids P + (2 + r + d) ≤ T) : ids.length < 80 := by
  have h := gh_len80 (gh_WF_al wf (dst := dst) hla hr hd ha hdst h1 h2)
  rw [List.length_append] at h
  simp only [List.length_cons, List.length_nil] at h
  omega
theorem gh_e2 (r d : Nat) : (2 : Int32) + nI r + nI d = nI (2 + r + d) := by rw [← nI_add, ← nI_add]; rfl
theorem gy_alloc43 {post : Int32 → SY → Prop} {i r d : Nat} (wf : gh_WF N T P K ids ag nr nd rf ro la) (h : gy_R N T P K ids ag nr nd rf da ro st (yn, yt, yp, yk, yLk, yLf, yLp, yLs, yMi, yFu, ySt, yOv, ySe, yAg, yNr, yNd, yRc, yDc, yRo, yMk)) (h3 : st 3 = nI la) (hla : la < 1000000) (hi : i < K) (hr : r ≤ 3) (hd : d ≤ 2)
    (k1 : gh_as ag (gh_w nr nd) ids 0 + (2 + r + d) ≤ N → ∀ v, gy_R N T P K (ids ++ [la + 1]) (gh_u ag (la + 1) 0) (gh_u nr (la + 1) r) (gh_u nd (la + 1) d) (gh_u rf (la + 1) (fun _ => 0)) (gh_u da (la + 1) (fun _ => 0)) (gh_u ro i (la + 1)) (upd st 3 (st 3 + 1)) v → post (nI (la + 1)) v)
    (k0 : ¬ gh_as ag (gh_w nr nd) ids 0 + (2 + r + d) ≤ N → post (-3) (yn, yt, yp, yk, yLk, yLf, yLp, yLs, yMi, yFu, ySt, yOv, ySe, yAg, yNr, yNd, yRc, yDc, yRo, yMk)) : wY_alloc_43 post (nI i) (nI r) (nI d) (nI (2 + r + d)) yn yt yp yk yLk yLf yLp yLs yMi yFu ySt yOv ySe yAg yNr yNd yRc yDc yRo yMk := by
  have h160 := gh_as160 wf 0
  have hP1 : 1 ≤ P := wf.1.2.2.2.2.1
  have hN : N ≤ 32 := wf.1.2.1
  unfold wY_alloc_43
  refine gy_words0 wf h (pk_le (gh_as ag (gh_w nr nd) ids 0 + (2 + r + d)) N (fun hle => ?_) (fun hgt => k0 (by omega)) (nI_add _ _) h.1.1)
  refine gy_make (g := 0) wf h h3 (gh_room wf (dst := i) (a := 0) hla hr hd (by omega) hi (fun _ => hle) (fun e => by omega)) hi hr hd (fun v hv => ?_)
  obtain ⟨y1, y2, y3, y4, y5, y6, y7, y8, y9, y10, y11, y12, y13, y14, y15, y16, y17, y18, y19, y20⟩ := v
  exact k1 hle _ hv
theorem gy_allocT43 {post : Int32 → SY → Prop} {i r d : Nat} (wf : gh_WF N T P K ids ag nr nd rf ro la) (h : gy_R N T P K ids ag nr nd rf da ro st (yn, yt, yp, yk, yLk, yLf, yLp, yLs, yMi, yFu, ySt, yOv, ySe, yAg, yNr, yNd, yRc, yDc, yRo, yMk)) (h3 : st 3 = nI la) (hla : la < 1000000) (hi : i < K) (hr : r ≤ 3) (hd : d ≤ 2)
    (k1 : gh_as ag (gh_w nr nd) ids P + (2 + r + d) ≤ T → ∀ v, gy_R N T P K (ids ++ [la + 1]) (gh_u ag (la + 1) P) (gh_u nr (la + 1) r) (gh_u nd (la + 1) d) (gh_u rf (la + 1) (fun _ => 0)) (gh_u da (la + 1) (fun _ => 0)) (gh_u ro i (la + 1)) (upd st 3 (st 3 + 1)) v → post (nI (la + 1)) v)
    (k0 : ¬ gh_as ag (gh_w nr nd) ids P + (2 + r + d) ≤ T → post (-3) (yn, yt, yp, yk, yLk, yLf, yLp, yLs, yMi, yFu, ySt, yOv, ySe, yAg, yNr, yNd, yRc, yDc, yRo, yMk)) : wY_allocTenured_43 post (nI i) (nI r) (nI d) (nI (2 + r + d)) yn yt yp yk yLk yLf yLp yLs yMi yFu ySt yOv ySe yAg yNr yNd yRc yDc yRo yMk := by
  have h160 := gh_as160 wf P
  have hP1 : 1 ≤ P := wf.1.2.2.2.2.1
  have hT : T ≤ 64 := wf.1.2.2.2.1
  have hyp : yp = nI P := h.1.2.2.1
  unfold wY_allocTenured_43
  refine gy_words2 wf h (pk_le (gh_as ag (gh_w nr nd) ids P + (2 + r + d)) T (fun hle => ?_) (fun hgt => k0 (by omega)) (nI_add _ _) h.1.2.1)
  subst hyp
  refine gy_make (g := P) wf h h3 (gh_room wf (dst := i) (a := P) hla hr hd (by omega) hi (fun e => by omega) (fun _ => hle)) hi hr hd (fun v hv => ?_)
  obtain ⟨y1, y2, y3, y4, y5, y6, y7, y8, y9, y10, y11, y12, y13, y14, y15, y16, y17, y18, y19, y20⟩ := v
  exact k1 hle _ hv
end
theorem i_vc_alloc {k : Nat} {u : SX} {v : SY} (I : i_Rel k u v) (hk : k + 4 ≤ 2052) (v1 : Int32) (v2 : Int32) (v3 : Int32) : wpX_alloc (fun r u' => wpY_alloc (fun r' v' => r' = r ∧ i_Rel (k + 4) u' v') v v1 v2 v3) u v1 v2 v3 := by
  obtain ⟨N, T, P, K, la, ids, ag, nr, nd, rf, da, ro, st, wf, h3, hX, hY⟩ := I
  obtain ⟨NL, TL, TA, RT, TS, rc, pF, pR, pP, me, ba, ot, tp, ob, rt, rs, rp, fw, fr, sc, cp, ss⟩ := u
  obtain ⟨yn, yt, yp, yk, yLk, yLf, yLp, yLs, yMi, yFu, ySt, yOv, ySe, yAg, yNr, yNd, yRc, yDc, yRo, yMk⟩ := v
  have hRT : RT = nI K := hX.1.2.2.2
  have hss : ss = st := hX.2.1
  have hNL : NL = nI N := hX.1.1
  have hyk : yk = nI K := hY.1.2.2.2
  have hyn : yn = nI N := hY.1.1
  have hyl : yLs = st 3 := hY.2.1.2.2.2.1
  have hK8 : K ≤ 8 := wf.1.2.2.2.2.2.2.2.1
  have hN32 : N ≤ 32 := wf.1.2.1
  have hP1 : 1 ≤ P := wf.1.2.2.2.2.1
  have hla : la ≤ 1000000 := wf.1.2.2.2.2.2.2.2.2
  subst hRT hss hyk hyl
  unfold wpX_alloc
  refine gx_allocRefusal ?_
  by_cases hr : gh_rfs (nI K) v1 v2 v3 (ss 3) = 0
  · obtain ⟨i, r, d, hi, hr3, hd2, rfl, rfl, rfl, hsp⟩ := gh_rfs0 hK8 hr
    have hla' : la < 1000000 := by
      by_cases z : la = 1000000
      · exact absurd (by rw [h3, z]; rfl) hsp
      · omega
    have h160 := gh_as160 wf 0
    have done : ∀ {N T P K la : Nat} {ids : List Nat} {ag : Nat → Nat} {st : Nat → Int32} {u' : SX} {v' : SY}, gh_WF N T P K ids ag nr nd rf ro la → st 3 = nI la → la < 1000000 → 1 ≤ P → i < K → gh_as ag (gh_w nr nd) ids 0 + (2 + r + d) ≤ N →
        gx_R N T P K (ids ++ [la + 1]) (gh_u ag (la + 1) 0) (gh_u nr (la + 1) r) (gh_u nd (la + 1) d) (gh_u rf (la + 1) (fun _ => 0)) (gh_u da (la + 1) (fun _ => 0)) (gh_u ro i (la + 1)) (upd st 3 (st 3 + 1)) u' →
        gy_R N T P K (ids ++ [la + 1]) (gh_u ag (la + 1) 0) (gh_u nr (la + 1) r) (gh_u nd (la + 1) d) (gh_u rf (la + 1) (fun _ => 0)) (gh_u da (la + 1) (fun _ => 0)) (gh_u ro i (la + 1)) (upd st 3 (st 3 + 1)) v' → i_Rel (k + 4) u' v' := by
      intro N T P K la ids ag st u' v' wf h3 hla hP1 hi hle hu hv
      exact ⟨N, T, P, K, la + 1, _, _, _, _, _, _, _, _, gh_WF_al wf hla hr3 hd2 (by omega) hi (fun _ => hle) (fun e => by omega), by rw [pk_us, h3, nI_1], hu, hv⟩
    refine br_t hr (nm_r (gh_e2 r d) (gx_words0 wf hX (pk_le (gh_as ag (gh_w nr nd) ids 0 + (2 + r + d)) N (fun hle => ?_) (fun hgt => ?_) (nI_add _ _) hNL)))
    · refine gx_alloc62 wf hX h3 hla' hi hr3 hd2 hle (fun u' hu => ?_)
      unfold wpY_alloc
      refine gy_refusal (br_t hr (nm_r (gh_e2 r d) (gy_words0 wf hY (pk_le (gh_as ag (gh_w nr nd) ids 0 + (2 + r + d)) N (fun _ => ?_) (fun c => by omega) (nI_add _ _) hyn))))
      exact gy_alloc43 wf hY h3 hla' hi hr3 hd2 (fun _ v' hv => ⟨rfl, done wf h3 hla' hP1 hi hle hu hv⟩) (fun c => absurd hle c)
    · refine gx_minorCollection wf hX (fun u' hu => ?_)
      have wf' := gh_WF_minor wf ss
      have h3' := (gh_minor_3 (T := T) (P := P) (ids := ids) (ag := ag) (nr := nr) (nd := nd) (rf := rf) (ro := ro) ss).trans h3
      obtain ⟨x1, x2, x3, x4, x5, x6, x7, x8, x9, x10, x11, x12, x13, x14, x15, x16, x17, x18, x19, x20, x21, x22⟩ := u'
      have h160' := gh_as160 wf' 0
      refine gx_words0 wf' hu (pk_le (gh_as (gh_minor T P ids ag nr nd rf ro ss).2.2.1 (gh_w nr nd) (gh_minor T P ids ag nr nd rf ro ss).2.1 0 + (2 + r + d)) N (fun hle => ?_) (fun hgt2 => ?_) (nI_add _ _) hu.1.1)
      · refine gx_alloc62 wf' hu h3' hla' hi hr3 hd2 hle (fun u2 hu2 => ?_)
        unfold wpY_alloc
        refine gy_refusal (br_t hr (nm_r (gh_e2 r d) (gy_words0 wf hY (pk_le (gh_as ag (gh_w nr nd) ids 0 + (2 + r + d)) N (fun c => by omega) (fun _ => gy_runMinor wf hY (fun v' hv => ?_)) (nI_add _ _) hyn))))
        obtain ⟨y1, y2, y3, y4, y5, y6, y7, y8, y9, y10, y11, y12, y13, y14, y15, y16, y17, y18, y19, y20⟩ := v'
        exact gy_alloc43 wf' hv h3' hla' hi hr3 hd2 (fun _ v2 hv2 => ⟨rfl, done wf' h3' hla' hP1 hi hle hu2 hv2⟩) (fun c => absurd hle c)
      · unfold wpY_alloc
        refine gy_refusal (br_t hr (nm_r (gh_e2 r d) (gy_words0 wf hY (pk_le (gh_as ag (gh_w nr nd) ids 0 + (2 + r + d)) N (fun c => by omega) (fun _ => gy_runMinor wf hY (fun v' hv => ?_)) (nI_add _ _) hyn))))
        obtain ⟨y1, y2, y3, y4, y5, y6, y7, y8, y9, y10, y11, y12, y13, y14, y15, y16, y17, y18, y19, y20⟩ := v'
        exact gy_alloc43 wf' hv h3' hla' hi hr3 hd2 (fun c => by omega) (fun _ => ⟨rfl, N, T, P, K, la, _, _, nr, nd, rf, da, ro, _, wf', h3', hu, hv⟩)
  · refine br_f hr ?_
    unfold wpY_alloc
    exact gy_refusal (br_f hr ⟨rfl, N, T, P, K, la, ids, ag, nr, nd, rf, da, ro, ss, wf, h3, hX, hY⟩)
theorem i_vc_allocTenured {k : Nat} {u : SX} {v : SY} (I : i_Rel k u v) (hk : k + 4 ≤ 2052) (v1 : Int32) (v2 : Int32) (v3 : Int32) : wpX_allocTenured (fun r u' => wpY_allocTenured (fun r' v' => r' = r ∧ i_Rel (k + 4) u' v') v v1 v2 v3) u v1 v2 v3 := by
  obtain ⟨N, T, P, K, la, ids, ag, nr, nd, rf, da, ro, st, wf, h3, hX, hY⟩ := I
  obtain ⟨NL, TL, TA, RT, TS, rc, pF, pR, pP, me, ba, ot, tp, ob, rt, rs, rp, fw, fr, sc, cp, ss⟩ := u
  obtain ⟨yn, yt, yp, yk, yLk, yLf, yLp, yLs, yMi, yFu, ySt, yOv, ySe, yAg, yNr, yNd, yRc, yDc, yRo, yMk⟩ := v
  have hRT : RT = nI K := hX.1.2.2.2
  have hss : ss = st := hX.2.1
  have hTL : TL = nI T := hX.1.2.1
  have hyk : yk = nI K := hY.1.2.2.2
  have hyt : yt = nI T := hY.1.2.1
  have hyl : yLs = st 3 := hY.2.1.2.2.2.1
  have hK8 : K ≤ 8 := wf.1.2.2.2.2.2.2.2.1
  have hT64 : T ≤ 64 := wf.1.2.2.2.1
  have hP1 : 1 ≤ P := wf.1.2.2.2.2.1
  have hla : la ≤ 1000000 := wf.1.2.2.2.2.2.2.2.2
  subst hRT hss hyk hyl
  unfold wpX_allocTenured
  refine gx_allocRefusal ?_
  by_cases hr : gh_rfs (nI K) v1 v2 v3 (ss 3) = 0
  · obtain ⟨i, r, d, hi, hr3, hd2, rfl, rfl, rfl, hsp⟩ := gh_rfs0 hK8 hr
    have hla' : la < 1000000 := by
      by_cases z : la = 1000000
      · exact absurd (by rw [h3, z]; rfl) hsp
      · omega
    have h160 := gh_as160 wf P
    have done : ∀ {N T P K la : Nat} {ids : List Nat} {ag : Nat → Nat} {st : Nat → Int32} {u' : SX} {v' : SY}, gh_WF N T P K ids ag nr nd rf ro la → st 3 = nI la → la < 1000000 → 1 ≤ P → i < K → gh_as ag (gh_w nr nd) ids P + (2 + r + d) ≤ T →
        gx_R N T P K (ids ++ [la + 1]) (gh_u ag (la + 1) P) (gh_u nr (la + 1) r) (gh_u nd (la + 1) d) (gh_u rf (la + 1) (fun _ => 0)) (gh_u da (la + 1) (fun _ => 0)) (gh_u ro i (la + 1)) (upd st 3 (st 3 + 1)) u' →
        gy_R N T P K (ids ++ [la + 1]) (gh_u ag (la + 1) P) (gh_u nr (la + 1) r) (gh_u nd (la + 1) d) (gh_u rf (la + 1) (fun _ => 0)) (gh_u da (la + 1) (fun _ => 0)) (gh_u ro i (la + 1)) (upd st 3 (st 3 + 1)) v' → i_Rel (k + 4) u' v' := by
      intro N T P K la ids ag st u' v' wf h3 hla hP1 hi hle hu hv
      exact ⟨N, T, P, K, la + 1, _, _, _, _, _, _, _, _, gh_WF_al wf hla hr3 hd2 (by omega) hi (fun e => by omega) (fun _ => hle), by rw [pk_us, h3, nI_1], hu, hv⟩
    refine br_t hr (nm_r (gh_e2 r d) (gx_words2 wf hX (pk_le (gh_as ag (gh_w nr nd) ids P + (2 + r + d)) T (fun hle => ?_) (fun hgt => ?_) (nI_add _ _) hTL)))
    · refine gx_allocT62 wf hX h3 hla' hi hr3 hd2 hle (fun u' hu => ?_)
      unfold wpY_allocTenured
      refine gy_refusal (br_t hr (nm_r (gh_e2 r d) (gy_words2 wf hY (pk_le (gh_as ag (gh_w nr nd) ids P + (2 + r + d)) T (fun _ => ?_) (fun c => by omega) (nI_add _ _) hyt))))
      exact gy_allocT43 wf hY h3 hla' hi hr3 hd2 (fun _ v' hv => ⟨rfl, done wf h3 hla' hP1 hi hle hu hv⟩) (fun c => absurd hle c)
    · refine gx_fullCollection wf hX (fun u' hu => ?_)
      have wf' := gh_WF_full wf ss
      have h3' := (gh_full_3 (T := T) (P := P) (ids := ids) (ag := ag) (nr := nr) (nd := nd) (rf := rf) (ro := ro) ss).trans h3
      obtain ⟨x1, x2, x3, x4, x5, x6, x7, x8, x9, x10, x11, x12, x13, x14, x15, x16, x17, x18, x19, x20, x21, x22⟩ := u'
      have h160' := gh_as160 wf' P
      refine gx_words2 wf' hu (pk_le (gh_as (gh_full T P ids ag nr nd rf ro ss).2.2.1 (gh_w nr nd) (gh_full T P ids ag nr nd rf ro ss).2.1 P + (2 + r + d)) T (fun hle => ?_) (fun hgt2 => ?_) (nI_add _ _) hu.1.2.1)
      · refine gx_allocT62 wf' hu h3' hla' hi hr3 hd2 hle (fun u2 hu2 => ?_)
        unfold wpY_allocTenured
        refine gy_refusal (br_t hr (nm_r (gh_e2 r d) (gy_words2 wf hY (pk_le (gh_as ag (gh_w nr nd) ids P + (2 + r + d)) T (fun c => by omega) (fun _ => gy_runFull wf hY (fun v' hv => ?_)) (nI_add _ _) hyt))))
        obtain ⟨y1, y2, y3, y4, y5, y6, y7, y8, y9, y10, y11, y12, y13, y14, y15, y16, y17, y18, y19, y20⟩ := v'
        exact gy_allocT43 wf' hv h3' hla' hi hr3 hd2 (fun _ v2 hv2 => ⟨rfl, done wf' h3' hla' hP1 hi hle hu2 hv2⟩) (fun c => absurd hle c)
      · unfold wpY_allocTenured
        refine gy_refusal (br_t hr (nm_r (gh_e2 r d) (gy_words2 wf hY (pk_le (gh_as ag (gh_w nr nd) ids P + (2 + r + d)) T (fun c => by omega) (fun _ => gy_runFull wf hY (fun v' hv => ?_)) (nI_add _ _) hyt))))
        obtain ⟨y1, y2, y3, y4, y5, y6, y7, y8, y9, y10, y11, y12, y13, y14, y15, y16, y17, y18, y19, y20⟩ := v'
        exact gy_allocT43 wf' hv h3' hla' hi hr3 hd2 (fun c => by omega) (fun _ => ⟨rfl, N, T, P, K, la, _, _, nr, nd, rf, da, ro, _, wf', h3', hu, hv⟩)
  · refine br_f hr ?_
    unfold wpY_allocTenured
    exact gy_refusal (br_f hr ⟨rfl, N, T, P, K, la, ids, ag, nr, nd, rf, da, ro, ss, wf, h3, hX, hY⟩)
end
section
/-! what is owed: the mutator and the getters -/
theorem gy_fld {B C : Prop} {p : Int32} {s n : Nat} {X : Nat → Int32} (hs : s < 80) (e : X s = nI n) (hn : n ≤ 3) (k1 : ∀ i, i < n → p = nI i → B) (k0 : (∀ i, i < n → p ≠ nI i) → C) :
    (p < 0 → C) ∧ (¬ p < 0 → vp_in (nI s) 80 ∧ ((p < X (nI s).toNatClampNeg → B) ∧ (¬ p < X (nI s).toNatClampNeg → C))) := by
  refine br_c (fun h => k0 (fun i hi c => ?_)) (fun h => ⟨pk_in s 80 hs, ?_⟩)
  · rw [c] at h; exact nI_pos (by omega) h
  · rw [nI_clamp (n := s) (by omega), e]
    obtain ⟨i, hi, rfl⟩ := nI_of h
    refine pk_lt i n (fun h2 => k1 i h2 rfl) (fun h2 => k0 (fun j hj c => ?_))
    have := (nI_eq hi (by omega)).mp c
    omega
theorem gh_3s (s i : Nat) : (3 : Int32) * nI s + nI i = nI (3 * s + i) := by rw [← nI_add, ← pk_mul]; rfl
theorem gh_2s (s i : Nat) : (2 : Int32) * nI s + nI i = nI (2 * s + i) := by rw [← nI_add, ← pk_mul]; rfl
theorem gh_a2 (a i : Nat) : nI a + 2 + nI i = nI (a + 2 + i) := by rw [← nI_add, ← nI_add]; rfl
theorem gh_nr {K : Nat} {v : Int32} (h : ¬ ∃ i, i < K ∧ v = nI i) : ∀ i, i < K → v ≠ nI i := fun i hi e => h ⟨i, hi, e⟩
section
variable {yn yt yp yk yLk yLf yLp yLs yMi yFu ySt yOv : Int32} {ySe yAg yNr yNd yRc yDc yRo yMk : Nat → Int32} {ids : List Nat} {ag nr nd : Nat → Nat} {rf : Nat → Nat → Nat} {da : Nat → Nat → Int32} {ro : Nat → Nat} {N T P K la : Nat} {se : Nat → Nat}
theorem gy_T_rf (hT : gy_T ids ag nr nd rf da se ySe yAg yNr yNd yRc yDc) (hbd : ∀ x, x ∈ ids → nr x ≤ 3) {s j y : Nat} (hs : s < 80) (h0 : se s ≠ 0) (hj : j < nr (se s)) :
    gy_T ids ag nr nd (gh_u rf (se s) (gh_u (rf (se s)) j y)) da se ySe yAg yNr yNd (upd yRc (3 * s + j) (nI y)) yDc := by
  obtain ⟨h1, h2, h3, h4⟩ := hT
  refine ⟨h1, fun t ht t0 => ?_, h3, h4⟩
  obtain ⟨g1, g2, g3, g4, g5, g6⟩ := h2 t ht t0
  refine ⟨g1, g2, g3, g4, fun i hi => ?_, g6⟩
  have hb := hbd _ g1
  have hbs := hbd _ (h2 s hs h0).1
  by_cases z : t = s
  · subst z
    rw [gh_us]
    by_cases e : i = j
    · subst e; rw [pk_us, gh_us]
    · rw [pk_un (by omega), gh_un e]; exact g5 i hi
  · have ne : se t ≠ se s := fun e => z (h4 t s ht hs t0 e)
    rw [gh_un ne, pk_un (by omega)]
    exact g5 i hi
theorem gy_T_da (hT : gy_T ids ag nr nd rf da se ySe yAg yNr yNd yRc yDc) (hbd : ∀ x, x ∈ ids → nd x ≤ 2) {s j : Nat} {v : Int32} (hs : s < 80) (h0 : se s ≠ 0) (hj : j < nd (se s)) :
    gy_T ids ag nr nd rf (gh_u da (se s) (gh_u (da (se s)) j v)) se ySe yAg yNr yNd yRc (upd yDc (2 * s + j) v) := by
  obtain ⟨h1, h2, h3, h4⟩ := hT
  refine ⟨h1, fun t ht t0 => ?_, h3, h4⟩
  obtain ⟨g1, g2, g3, g4, g5, g6⟩ := h2 t ht t0
  refine ⟨g1, g2, g3, g4, g5, fun i hi => ?_⟩
  have hb := hbd _ g1
  have hbs := hbd _ (h2 s hs h0).1
  by_cases z : t = s
  · subst z
    rw [gh_us]
    by_cases e : i = j
    · subst e; rw [pk_us, gh_us]
    · rw [pk_un (by omega), gh_un e]; exact g6 i hi
  · have ne : se t ≠ se s := fun e => z (h4 t s ht hs t0 e)
    rw [gh_un ne, pk_un (by omega)]
    exact g6 i hi
end
theorem i_vc_move {k : Nat} {u : SX} {v : SY} (I : i_Rel k u v) (hk : k + 4 ≤ 2052) (v1 : Int32) (v2 : Int32) : wpX_move (fun r u' => wpY_move (fun r' v' => r' = r ∧ i_Rel (k + 4) u' v') v v1 v2) u v1 v2 := by
  refine gi_el (Q := fun u v => wpX_move (fun r u' => wpY_move (fun r' v' => r' = r ∧ i_Rel (k + 4) u' v') v v1 v2) u v1 v2) I ?_
  intro N T P K la c ids ag nr nd rf da ro st L A bs os TS pF pR pP me ba ot tp ob rt rs rp fw fr sc cp se ySe yAg yNr yNd yRc yDc yRo yMk wf h3 kx hro hT
  have hK8 : K ≤ 8 := wf.1.2.2.2.2.2.2.2.1
  unfold wpX_move
  by_cases h1 : ∃ i, i < K ∧ v1 = nI i
  · obtain ⟨i, hi, rfl⟩ := h1
    refine gx_inR1 hK8 hi (br_f (by decide) ?_)
    by_cases h2 : ∃ j, j < K ∧ v2 = nI j
    · obtain ⟨j, hj, rfl⟩ := h2
      have hy := wf.2.2.2.2.1 j
      refine gx_inR1 hK8 hj (br_f (by decide) ⟨pk_in j 8 (by omega), pk_in i 8 (by omega), ?_⟩)
      rw [nI_clamp (n := i) (by omega), nI_clamp (n := j) (by omega), kx.2.2.2.2.1 j (by omega)]
      refine nm_e ⟨pk_in i 8 (by omega), ?_⟩
      rw [pk_us]
      refine gx_serialAt wf kx hy ?_
      unfold wpY_move
      refine gy_badR1 hK8 hi (br_t rfl (gy_badR1 hK8 hj (br_t rfl ⟨pk_in j 8 (by omega), pk_in i 8 (by omega), ?_⟩)))
      rw [nI_clamp (n := i) (by omega), nI_clamp (n := j) (by omega), hro j (by omega)]
      refine nm_e ⟨pk_in i 8 (by omega), pk_us, N, T, P, K, la, ids, ag, nr, nd, rf, da, gh_u ro i (ro j), st, gh_WF_ro wf hy hi, h3, ⟨⟨rfl, rfl, rfl, rfl⟩, rfl, L, A, bs, os, c, rfl, gx_K_ro kx⟩, ⟨⟨rfl, rfl, rfl, rfl⟩, ⟨rfl, rfl, rfl, rfl, rfl, rfl, rfl, rfl⟩, fun r hr => ?_, se, hT⟩⟩
      by_cases z : r = i
      · subst z; rw [pk_us, gh_us]
      · rw [pk_un z, gh_un z]; exact hro r hr
    · refine gx_inR0 hK8 (gh_nr h2) (br_t rfl ?_)
      unfold wpY_move
      exact gy_badR1 hK8 hi (br_t rfl (gy_badR0 hK8 (gh_nr h2) (br_f (by decide) ⟨rfl, N, T, P, K, la, ids, ag, nr, nd, rf, da, ro, st, wf, h3, ⟨⟨rfl, rfl, rfl, rfl⟩, rfl, L, A, bs, os, c, rfl, kx⟩, ⟨⟨rfl, rfl, rfl, rfl⟩, ⟨rfl, rfl, rfl, rfl, rfl, rfl, rfl, rfl⟩, hro, se, hT⟩⟩)))
  · refine gx_inR0 hK8 (gh_nr h1) (br_t rfl ?_)
    unfold wpY_move
    exact gy_badR0 hK8 (gh_nr h1) (br_f (by decide) ⟨rfl, N, T, P, K, la, ids, ag, nr, nd, rf, da, ro, st, wf, h3, ⟨⟨rfl, rfl, rfl, rfl⟩, rfl, L, A, bs, os, c, rfl, kx⟩, ⟨⟨rfl, rfl, rfl, rfl⟩, ⟨rfl, rfl, rfl, rfl, rfl, rfl, rfl, rfl⟩, hro, se, hT⟩⟩)
theorem i_vc_clear {k : Nat} {u : SX} {v : SY} (I : i_Rel k u v) (hk : k + 4 ≤ 2052) (v1 : Int32) : wpX_clear (fun r u' => wpY_clear (fun r' v' => r' = r ∧ i_Rel (k + 4) u' v') v v1) u v1 := by
  refine gi_el (Q := fun u v => wpX_clear (fun r u' => wpY_clear (fun r' v' => r' = r ∧ i_Rel (k + 4) u' v') v v1) u v1) I ?_
  intro N T P K la c ids ag nr nd rf da ro st L A bs os TS pF pR pP me ba ot tp ob rt rs rp fw fr sc cp se ySe yAg yNr yNd yRc yDc yRo yMk wf h3 kx hro hT
  have hK8 : K ≤ 8 := wf.1.2.2.2.2.2.2.2.1
  unfold wpX_clear
  by_cases h1 : ∃ i, i < K ∧ v1 = nI i
  · obtain ⟨i, hi, rfl⟩ := h1
    refine gx_inR1 hK8 hi (br_f (by decide) ⟨pk_in i 8 (by omega), ?_⟩)
    have e0 : (0 : Int32) = nI (A 0) := by rw [kx.1]; rfl
    rw [nI_clamp (n := i) (by omega)]
    refine nm_r (e' := upd rt i (nI (A 0))) (by rw [← e0]) ?_
    unfold wpY_clear
    refine gy_badR1 hK8 hi (br_t rfl ⟨pk_in i 8 (by omega), ?_⟩)
    rw [nI_clamp (n := i) (by omega)]
    refine nm_e ⟨rfl, N, T, P, K, la, ids, ag, nr, nd, rf, da, gh_u ro i 0, st, gh_WF_ro wf (Or.inl rfl) hi, h3, ⟨⟨rfl, rfl, rfl, rfl⟩, rfl, L, A, bs, os, c, rfl, gx_K_ro kx⟩, ⟨⟨rfl, rfl, rfl, rfl⟩, ⟨rfl, rfl, rfl, rfl, rfl, rfl, rfl, rfl⟩, fun r hr => ?_, se, hT⟩⟩
    by_cases z : r = i
    · subst z; rw [pk_us, gh_us]; rfl
    · rw [pk_un z, gh_un z]; exact hro r hr
  · refine gx_inR0 hK8 (gh_nr h1) (br_t rfl ?_)
    unfold wpY_clear
    exact gy_badR0 hK8 (gh_nr h1) (br_f (by decide) ⟨rfl, N, T, P, K, la, ids, ag, nr, nd, rf, da, ro, st, wf, h3, ⟨⟨rfl, rfl, rfl, rfl⟩, rfl, L, A, bs, os, c, rfl, kx⟩, ⟨⟨rfl, rfl, rfl, rfl⟩, ⟨rfl, rfl, rfl, rfl, rfl, rfl, rfl, rfl⟩, hro, se, hT⟩⟩)
theorem i_vc_load {k : Nat} {u : SX} {v : SY} (I : i_Rel k u v) (hk : k + 4 ≤ 2052) (v1 : Int32) (v2 : Int32) (v3 : Int32) : wpX_load (fun r u' => wpY_load (fun r' v' => r' = r ∧ i_Rel (k + 4) u' v') v v1 v2 v3) u v1 v2 v3 := by
  refine gi_el (Q := fun u v => wpX_load (fun r u' => wpY_load (fun r' v' => r' = r ∧ i_Rel (k + 4) u' v') v v1 v2 v3) u v1 v2 v3) I ?_
  intro N T P K la c ids ag nr nd rf da ro st L A bs os TS pF pR pP me ba ot tp ob rt rs rp fw fr sc cp se ySe yAg yNr yNd yRc yDc yRo yMk wf h3 kx hro hT
  have hK8 : K ≤ 8 := wf.1.2.2.2.2.2.2.2.1
  have hb := gh_bd_of wf
  have J : i_Rel (k + 4) (nI N, nI T, nI P, nI K, TS, nI c, pF, pR, pP, me, ba, ot, tp, ob, rt, rs, rp, fw, fr, sc, cp, st) (nI N, nI T, nI P, nI K, st 0, st 1, st 2, st 3, st 4, st 5, st 6, st 7, ySe, yAg, yNr, yNd, yRc, yDc, yRo, yMk) :=
    ⟨N, T, P, K, la, ids, ag, nr, nd, rf, da, ro, st, wf, h3, ⟨⟨rfl, rfl, rfl, rfl⟩, rfl, L, A, bs, os, c, rfl, kx⟩, ⟨⟨rfl, rfl, rfl, rfl⟩, ⟨rfl, rfl, rfl, rfl, rfl, rfl, rfl, rfl⟩, hro, se, hT⟩⟩
  unfold wpX_load
  by_cases h1 : ∃ i, i < K ∧ v1 = nI i
  · obtain ⟨i, hi, rfl⟩ := h1
    refine gx_inR1 hK8 hi (br_f (by decide) ?_)
    by_cases h2 : ∃ j, j < K ∧ v2 = nI j
    · obtain ⟨j, hj, rfl⟩ := h2
      have hy := wf.2.2.2.2.1 j
      refine gx_inR1 hK8 hj (br_f (by decide) ⟨pk_in j 8 (by omega), ?_⟩)
      rw [nI_clamp (n := j) (by omega)]
      refine nm_r (kx.2.2.2.2.1 j (by omega)) (gx_refFR wf kx hy (fun z => br_f (by decide) ?_) (fun hy' hno => br_f (by decide) ?_) (fun f hy' hf ef => br_t rfl ?_))
      · unfold wpY_load
        refine gy_badR1 hK8 hi (br_t rfl (gy_badR1 hK8 hj (br_t rfl ⟨pk_in j 8 (by omega), ?_⟩)))
        rw [nI_clamp (n := j) (by omega), hro j (by omega)]
        refine gy_findN hb hT hy (fun s hs hid es => ?_) (fun _ => br_f (by decide) ⟨rfl, J⟩)
        rw [z] at hid
        have := (hb.2.2 _ hid).1
        omega
      · unfold wpY_load
        refine gy_badR1 hK8 hi (br_t rfl (gy_badR1 hK8 hj (br_t rfl ⟨pk_in j 8 (by omega), ?_⟩)))
        rw [nI_clamp (n := j) (by omega), hro j (by omega)]
        refine gy_findN hb hT hy (fun s hs hid es => br_t (nI_pos' (by omega)) ?_) (fun z => ?_)
        · have hx := hb.2.2 _ hid
          have hnr : yNr s = nI (nr (ro j)) := by rw [(hT.2.1 s hs (by omega)).2.2.1, es]
          exact gy_fld hs hnr hx.2.2.1 (fun f hf e => absurd e (hno f hf)) (fun _ => ⟨rfl, J⟩)
        · rw [z] at hy'
          have := (hb.2.2 _ hy').1
          omega
      · subst ef
        have hin := gx_in wf kx hy'
        have hw : gh_w nr nd (ro j) = 2 + nr (ro j) + nd (ro j) := rfl
        have hz := wf.2.2.2.1 (ro j) f hy' hf
        rw [gh_a2]
        refine ⟨pk_in (A (ro j) + 2 + f) 392 (by omega), pk_in i 8 (by omega), ?_⟩
        rw [nI_clamp (n := i) (by omega), nI_clamp (n := A (ro j) + 2 + f) (by omega), (kx.2.2.2.1 _ hy').2.2.1 f hf]
        refine nm_e ⟨pk_in i 8 (by omega), ?_⟩
        rw [pk_us]
        refine gx_serialAt wf kx hz ?_
        unfold wpY_load
        refine gy_badR1 hK8 hi (br_t rfl (gy_badR1 hK8 hj (br_t rfl ⟨pk_in j 8 (by omega), ?_⟩)))
        rw [nI_clamp (n := j) (by omega), hro j (by omega)]
        refine gy_findN hb hT hy (fun s hs hid es => br_t (nI_pos' (by omega)) ?_) (fun z => ?_)
        · have hx := hb.2.2 _ hid
          have hs0 : se s ≠ 0 := by omega
          have hnr : yNr s = nI (nr (ro j)) := by rw [(hT.2.1 s hs hs0).2.2.1, es]
          refine gy_fld hs hnr hx.2.2.1 (fun f' hf' e => ?_) (fun hno => absurd rfl (hno f hf))
          have ef : f' = f := ((nI_eq (by omega) (by omega)).mp e).symm
          subst ef
          rw [gh_3s]
          refine ⟨pk_in (3 * s + f') 240 (by omega), pk_in i 8 (by omega), ?_⟩
          have hrc := (hT.2.1 s hs hs0).2.2.2.2.1 f' (by rw [es]; exact hf')
          rw [es] at hrc
          rw [nI_clamp (n := i) (by omega), nI_clamp (n := 3 * s + f') (by omega), hrc]
          refine nm_e ⟨pk_in i 8 (by omega), pk_us, N, T, P, K, la, ids, ag, nr, nd, rf, da, gh_u ro i (rf (ro j) f'), st, gh_WF_ro wf hz hi, h3, ⟨⟨rfl, rfl, rfl, rfl⟩, rfl, L, A, bs, os, c, rfl, gx_K_ro kx⟩, ⟨⟨rfl, rfl, rfl, rfl⟩, ⟨rfl, rfl, rfl, rfl, rfl, rfl, rfl, rfl⟩, fun r hr => ?_, se, hT⟩⟩
          by_cases z : r = i
          · subst z; rw [pk_us, gh_us]
          · rw [pk_un z, gh_un z]; exact hro r hr
        · rw [z] at hy'
          have := (hb.2.2 _ hy').1
          omega
    · refine gx_inR0 hK8 (gh_nr h2) (br_t rfl ?_)
      unfold wpY_load
      exact gy_badR1 hK8 hi (br_t rfl (gy_badR0 hK8 (gh_nr h2) (br_f (by decide) ⟨rfl, J⟩)))
  · refine gx_inR0 hK8 (gh_nr h1) (br_t rfl ?_)
    unfold wpY_load
    exact gy_badR0 hK8 (gh_nr h1) (br_f (by decide) ⟨rfl, J⟩)
theorem i_vc_store {k : Nat} {u : SX} {v : SY} (I : i_Rel k u v) (hk : k + 4 ≤ 2052) (v1 : Int32) (v2 : Int32) (v3 : Int32) : wpX_store (fun r u' => wpY_store (fun r' v' => r' = r ∧ i_Rel (k + 4) u' v') v v1 v2 v3) u v1 v2 v3 := by
  refine gi_el (Q := fun u v => wpX_store (fun r u' => wpY_store (fun r' v' => r' = r ∧ i_Rel (k + 4) u' v') v v1 v2 v3) u v1 v2 v3) I ?_
  intro N T P K la c ids ag nr nd rf da ro st L A bs os TS pF pR pP me ba ot tp ob rt rs rp fw fr sc cp se ySe yAg yNr yNd yRc yDc yRo yMk wf h3 kx hro hT
  have hK8 : K ≤ 8 := wf.1.2.2.2.2.2.2.2.1
  have hb := gh_bd_of wf
  have J : i_Rel (k + 4) (nI N, nI T, nI P, nI K, TS, nI c, pF, pR, pP, me, ba, ot, tp, ob, rt, rs, rp, fw, fr, sc, cp, st) (nI N, nI T, nI P, nI K, st 0, st 1, st 2, st 3, st 4, st 5, st 6, st 7, ySe, yAg, yNr, yNd, yRc, yDc, yRo, yMk) :=
    ⟨N, T, P, K, la, ids, ag, nr, nd, rf, da, ro, st, wf, h3, ⟨⟨rfl, rfl, rfl, rfl⟩, rfl, L, A, bs, os, c, rfl, kx⟩, ⟨⟨rfl, rfl, rfl, rfl⟩, ⟨rfl, rfl, rfl, rfl, rfl, rfl, rfl, rfl⟩, hro, se, hT⟩⟩
  unfold wpX_store
  by_cases h1 : ∃ i, i < K ∧ v1 = nI i
  · obtain ⟨i, hi, rfl⟩ := h1
    refine gx_inR1 hK8 hi (br_f (by decide) ?_)
    by_cases h2 : ∃ j, j < K ∧ v3 = nI j
    · obtain ⟨j, hj, rfl⟩ := h2
      have hy := wf.2.2.2.2.1 i
      have hz := wf.2.2.2.2.1 j
      refine gx_inR1 hK8 hj (br_f (by decide) ⟨pk_in i 8 (by omega), ?_⟩)
      rw [nI_clamp (n := i) (by omega), nI_clamp (n := j) (by omega)]
      refine nm_r (kx.2.2.2.2.1 i (by omega)) (gx_refFR wf kx hy (fun z => br_f (by decide) ?_) (fun hy' hno => br_f (by decide) ?_) (fun f hy' hf ef => br_t rfl ⟨pk_in j 8 (by omega), ?_⟩))
      · unfold wpY_store
        refine gy_badR1 hK8 hi (br_t rfl (gy_badR1 hK8 hj (br_t rfl ⟨pk_in i 8 (by omega), ?_⟩)))
        rw [nI_clamp (n := i) (by omega), hro i (by omega)]
        refine gy_findN hb hT hy (fun s hs hid es => ?_) (fun _ => br_f (by decide) ⟨rfl, J⟩)
        rw [z] at hid
        have := (hb.2.2 _ hid).1
        omega
      · unfold wpY_store
        refine gy_badR1 hK8 hi (br_t rfl (gy_badR1 hK8 hj (br_t rfl ⟨pk_in i 8 (by omega), ?_⟩)))
        rw [nI_clamp (n := i) (by omega), hro i (by omega)]
        refine gy_findN hb hT hy (fun s hs hid es => br_t (nI_pos' (by omega)) ?_) (fun z => ?_)
        · have hx := hb.2.2 _ hid
          have hnr : yNr s = nI (nr (ro i)) := by rw [(hT.2.1 s hs (by omega)).2.2.1, es]
          exact gy_fld hs hnr hx.2.2.1 (fun f hf e => absurd e (hno f hf)) (fun _ => ⟨rfl, J⟩)
        · rw [z] at hy'
          have := (hb.2.2 _ hy').1
          omega
      · subst ef
        rw [gh_a2, kx.2.2.2.2.1 j (by omega)]
        refine gx_writeRef wf kx hy' hf hz (fun c' me' rs' rp' kx' => ⟨pk_in j 8 (by omega), ?_⟩)
        rw [kx.2.2.2.2.1 j (by omega)]
        refine gx_serialAt (gh_WF_rf wf hz) kx' hz ?_
        unfold wpY_store
        refine gy_badR1 hK8 hi (br_t rfl (gy_badR1 hK8 hj (br_t rfl ⟨pk_in i 8 (by omega), ?_⟩)))
        rw [nI_clamp (n := i) (by omega), hro i (by omega)]
        refine gy_findN hb hT hy (fun s hs hid es => br_t (nI_pos' (by omega)) ?_) (fun z => ?_)
        · have hx := hb.2.2 _ hid
          have hs0 : se s ≠ 0 := by omega
          have hnr : yNr s = nI (nr (ro i)) := by rw [(hT.2.1 s hs hs0).2.2.1, es]
          refine gy_fld hs hnr hx.2.2.1 (fun f' hf' e => ?_) (fun hno => absurd rfl (hno f hf))
          have ef : f' = f := ((nI_eq (by omega) (by omega)).mp e).symm
          subst ef
          rw [gh_3s]
          refine ⟨pk_in j 8 (by omega), pk_in (3 * s + f') 240 (by omega), ?_⟩
          have hT' := gy_T_rf (y := ro j) hT (fun x hx => (hb.2.2 x hx).2.2.1) hs hs0 (j := f') (by rw [es]; exact hf')
          rw [es] at hT'
          rw [nI_clamp (n := j) (by omega), nI_clamp (n := 3 * s + f') (by omega), hro j (by omega)]
          exact nm_e ⟨pk_in j 8 (by omega), rfl, N, T, P, K, la, ids, ag, nr, nd, _, da, ro, st, gh_WF_rf wf hz, h3, ⟨⟨rfl, rfl, rfl, rfl⟩, rfl, L, A, bs, os, c', rfl, kx'⟩, ⟨⟨rfl, rfl, rfl, rfl⟩, ⟨rfl, rfl, rfl, rfl, rfl, rfl, rfl, rfl⟩, hro, se, hT'⟩⟩
        · rw [z] at hy'
          have := (hb.2.2 _ hy').1
          omega
    · refine gx_inR0 hK8 (gh_nr h2) (br_t rfl ?_)
      unfold wpY_store
      exact gy_badR1 hK8 hi (br_t rfl (gy_badR0 hK8 (gh_nr h2) (br_f (by decide) ⟨rfl, J⟩)))
  · refine gx_inR0 hK8 (gh_nr h1) (br_t rfl ?_)
    unfold wpY_store
    exact gy_badR0 hK8 (gh_nr h1) (br_f (by decide) ⟨rfl, J⟩)
theorem i_vc_storeNull {k : Nat} {u : SX} {v : SY} (I : i_Rel k u v) (hk : k + 4 ≤ 2052) (v1 : Int32) (v2 : Int32) : wpX_storeNull (fun r u' => wpY_storeNull (fun r' v' => r' = r ∧ i_Rel (k + 4) u' v') v v1 v2) u v1 v2 := by
  refine gi_el (Q := fun u v => wpX_storeNull (fun r u' => wpY_storeNull (fun r' v' => r' = r ∧ i_Rel (k + 4) u' v') v v1 v2) u v1 v2) I ?_
  intro N T P K la c ids ag nr nd rf da ro st L A bs os TS pF pR pP me ba ot tp ob rt rs rp fw fr sc cp se ySe yAg yNr yNd yRc yDc yRo yMk wf h3 kx hro hT
  have hK8 : K ≤ 8 := wf.1.2.2.2.2.2.2.2.1
  have hb := gh_bd_of wf
  have J : i_Rel (k + 4) (nI N, nI T, nI P, nI K, TS, nI c, pF, pR, pP, me, ba, ot, tp, ob, rt, rs, rp, fw, fr, sc, cp, st) (nI N, nI T, nI P, nI K, st 0, st 1, st 2, st 3, st 4, st 5, st 6, st 7, ySe, yAg, yNr, yNd, yRc, yDc, yRo, yMk) :=
    ⟨N, T, P, K, la, ids, ag, nr, nd, rf, da, ro, st, wf, h3, ⟨⟨rfl, rfl, rfl, rfl⟩, rfl, L, A, bs, os, c, rfl, kx⟩, ⟨⟨rfl, rfl, rfl, rfl⟩, ⟨rfl, rfl, rfl, rfl, rfl, rfl, rfl, rfl⟩, hro, se, hT⟩⟩
  unfold wpX_storeNull
  by_cases h1 : ∃ i, i < K ∧ v1 = nI i
  · obtain ⟨i, hi, rfl⟩ := h1
    have hy := wf.2.2.2.2.1 i
    refine gx_inR1 hK8 hi (br_f (by decide) ⟨pk_in i 8 (by omega), ?_⟩)
    rw [nI_clamp (n := i) (by omega)]
    refine nm_r (kx.2.2.2.2.1 i (by omega)) (gx_refFR wf kx hy (fun z => br_f (by decide) ?_) (fun hy' hno => br_f (by decide) ?_) (fun f hy' hf ef => br_t rfl ?_))
    · unfold wpY_storeNull
      refine gy_badR1 hK8 hi (br_t rfl ⟨pk_in i 8 (by omega), ?_⟩)
      rw [nI_clamp (n := i) (by omega), hro i (by omega)]
      refine gy_findN hb hT hy (fun s hs hid es => ?_) (fun _ => br_f (by decide) ⟨rfl, J⟩)
      rw [z] at hid
      have := (hb.2.2 _ hid).1
      omega
    · unfold wpY_storeNull
      refine gy_badR1 hK8 hi (br_t rfl ⟨pk_in i 8 (by omega), ?_⟩)
      rw [nI_clamp (n := i) (by omega), hro i (by omega)]
      refine gy_findN hb hT hy (fun s hs hid es => br_t (nI_pos' (by omega)) ?_) (fun z => ?_)
      · have hx := hb.2.2 _ hid
        have hnr : yNr s = nI (nr (ro i)) := by rw [(hT.2.1 s hs (by omega)).2.2.1, es]
        exact gy_fld hs hnr hx.2.2.1 (fun f hf e => absurd e (hno f hf)) (fun _ => ⟨rfl, J⟩)
      · rw [z] at hy'
        have := (hb.2.2 _ hy').1
        omega
    · subst ef
      have e0 : (0 : Int32) = nI (A 0) := by rw [kx.1]; rfl
      have hz : (0 : Nat) = 0 ∨ 0 ∈ ids := Or.inl rfl
      have K0 : wpX_writeRef (fun u => match u with | (NL, TL, TA, RT, TS, rc, pF, pR, pP, me, ba, ot, tp, ob, rt, rs, rp, fw, fr, sc, cp, ss) => wpY_storeNull (fun r' v' => r' = 0 ∧ i_Rel (k + 4) (NL, TL, TA, RT, TS, rc, pF, pR, pP, me, ba, ot, tp, ob, rt, rs, rp, fw, fr, sc, cp, ss) v') (nI N, nI T, nI P, nI K, st 0, st 1, st 2, st 3, st 4, st 5, st 6, st 7, ySe, yAg, yNr, yNd, yRc, yDc, yRo, yMk) (nI i) (nI f)) (nI N, nI T, nI P, nI K, TS, nI c, pF, pR, pP, me, ba, ot, tp, ob, rt, rs, rp, fw, fr, sc, cp, st) (nI (A (ro i) + 2 + f)) (nI (A 0)) := by
        refine gx_writeRef wf kx hy' hf hz (fun c' me' rs' rp' kx' => ?_)
        unfold wpY_storeNull
        refine gy_badR1 hK8 hi (br_t rfl ⟨pk_in i 8 (by omega), ?_⟩)
        rw [nI_clamp (n := i) (by omega), hro i (by omega)]
        refine gy_findN hb hT hy (fun s hs hid es => br_t (nI_pos' (by omega)) ?_) (fun z => ?_)
        · have hx := hb.2.2 _ hid
          have hs0 : se s ≠ 0 := by omega
          have hnr : yNr s = nI (nr (ro i)) := by rw [(hT.2.1 s hs hs0).2.2.1, es]
          refine gy_fld hs hnr hx.2.2.1 (fun f' hf' e => ?_) (fun hno => absurd rfl (hno f hf))
          have ef : f' = f := ((nI_eq (by omega) (by omega)).mp e).symm
          subst ef
          rw [gh_3s]
          refine ⟨pk_in (3 * s + f') 240 (by omega), ?_⟩
          have hT' := gy_T_rf (y := 0) hT (fun x hx => (hb.2.2 x hx).2.2.1) hs hs0 (j := f') (by rw [es]; exact hf')
          rw [es] at hT'
          rw [nI_clamp (n := 3 * s + f') (by omega)]
          exact nm_e ⟨rfl, N, T, P, K, la, ids, ag, nr, nd, _, da, ro, st, gh_WF_rf wf hz, h3, ⟨⟨rfl, rfl, rfl, rfl⟩, rfl, L, A, bs, os, c', rfl, kx'⟩, ⟨⟨rfl, rfl, rfl, rfl⟩, ⟨rfl, rfl, rfl, rfl, rfl, rfl, rfl, rfl⟩, hro, se, hT'⟩⟩
        · rw [z] at hy'
          have := (hb.2.2 _ hy').1
          omega
      rw [← e0, ← gh_a2] at K0
      exact K0
  · refine gx_inR0 hK8 (gh_nr h1) (br_t rfl ?_)
    unfold wpY_storeNull
    exact gy_badR0 hK8 (gh_nr h1) (br_f (by decide) ⟨rfl, J⟩)
theorem i_vc_writeData {k : Nat} {u : SX} {v : SY} (I : i_Rel k u v) (hk : k + 4 ≤ 2052) (v1 : Int32) (v2 : Int32) (v3 : Int32) : wpX_writeData (fun r u' => wpY_writeData (fun r' v' => r' = r ∧ i_Rel (k + 4) u' v') v v1 v2 v3) u v1 v2 v3 := by
  refine gi_el (Q := fun u v => wpX_writeData (fun r u' => wpY_writeData (fun r' v' => r' = r ∧ i_Rel (k + 4) u' v') v v1 v2 v3) u v1 v2 v3) I ?_
  intro N T P K la c ids ag nr nd rf da ro st L A bs os TS pF pR pP me ba ot tp ob rt rs rp fw fr sc cp se ySe yAg yNr yNd yRc yDc yRo yMk wf h3 kx hro hT
  have hK8 : K ≤ 8 := wf.1.2.2.2.2.2.2.2.1
  have hb := gh_bd_of wf
  have J : i_Rel (k + 4) (nI N, nI T, nI P, nI K, TS, nI c, pF, pR, pP, me, ba, ot, tp, ob, rt, rs, rp, fw, fr, sc, cp, st) (nI N, nI T, nI P, nI K, st 0, st 1, st 2, st 3, st 4, st 5, st 6, st 7, ySe, yAg, yNr, yNd, yRc, yDc, yRo, yMk) :=
    ⟨N, T, P, K, la, ids, ag, nr, nd, rf, da, ro, st, wf, h3, ⟨⟨rfl, rfl, rfl, rfl⟩, rfl, L, A, bs, os, c, rfl, kx⟩, ⟨⟨rfl, rfl, rfl, rfl⟩, ⟨rfl, rfl, rfl, rfl, rfl, rfl, rfl, rfl⟩, hro, se, hT⟩⟩
  unfold wpX_writeData
  by_cases h1 : ∃ i, i < K ∧ v1 = nI i
  · obtain ⟨i, hi, rfl⟩ := h1
    have hy := wf.2.2.2.2.1 i
    refine gx_inR1 hK8 hi (br_f (by decide) ⟨pk_in i 8 (by omega), ?_⟩)
    rw [nI_clamp (n := i) (by omega)]
    refine nm_r (kx.2.2.2.2.1 i (by omega)) ?_
    rcases hy with z | hy'
    · refine br_t (by rw [z, kx.1]; rfl) ?_
      unfold wpY_writeData
      refine gy_badR1 hK8 hi (br_t rfl ⟨pk_in i 8 (by omega), ?_⟩)
      rw [nI_clamp (n := i) (by omega), hro i (by omega)]
      refine gy_findN hb hT (Or.inl z) (fun s hs hid es => ?_) (fun _ => br_f (by decide) ⟨rfl, J⟩)
      rw [z] at hid
      have := (hb.2.2 _ hid).1
      omega
    · have hin := gx_in wf kx hy'
      have hx := hb.2.2 _ hy'
      have hw : gh_w nr nd (ro i) = 2 + nr (ro i) + nd (ro i) := rfl
      have bad : (∀ f, f < nd (ro i) → v2 ≠ nI f) → wpY_writeData (fun r' v' => r' = -5 ∧ i_Rel (k + 4) (nI N, nI T, nI P, nI K, TS, nI c, pF, pR, pP, me, ba, ot, tp, ob, rt, rs, rp, fw, fr, sc, cp, st) v') (nI N, nI T, nI P, nI K, st 0, st 1, st 2, st 3, st 4, st 5, st 6, st 7, ySe, yAg, yNr, yNd, yRc, yDc, yRo, yMk) (nI i) v2 v3 := by
        intro hno
        unfold wpY_writeData
        refine gy_badR1 hK8 hi (br_t rfl ⟨pk_in i 8 (by omega), ?_⟩)
        rw [nI_clamp (n := i) (by omega), hro i (by omega)]
        refine gy_findN hb hT (Or.inr hy') (fun s hs hid es => br_t (nI_pos' (by omega)) ?_) (fun z => ?_)
        · have hnd : yNd s = nI (nd (ro i)) := by rw [(hT.2.1 s hs (by omega)).2.2.2.1, es]
          exact gy_fld hs hnd (by omega) (fun f hf e => absurd e (hno f hf)) (fun _ => ⟨rfl, J⟩)
        · omega
      refine br_f (nI_ne0 (by omega) (by omega)) (br_c (fun h => bad (fun f hf e => ?_)) (fun h => gx_dataAt (gx_dscA wf kx hy') ?_))
      · rw [e] at h; exact nI_pos (by omega) h
      · obtain ⟨f, hf31, rfl⟩ := nI_of h
        refine pk_lt f (nd (ro i)) (fun hf => gx_refsAt (gx_dscA wf kx hy') (nm_r (e' := nI (A (ro i) + 2 + nr (ro i) + f)) ?_ ⟨pk_in (A (ro i) + 2 + nr (ro i) + f) 392 (by omega), ?_⟩)) (fun hf => bad (fun f' hf' e => ?_))
        · rw [← nI_add, ← nI_add, ← nI_add]; rfl
        · rw [nI_clamp (n := A (ro i) + 2 + nr (ro i) + f) (by omega)]
          refine nm_e ?_
          unfold wpY_writeData
          refine gy_badR1 hK8 hi (br_t rfl ⟨pk_in i 8 (by omega), ?_⟩)
          rw [nI_clamp (n := i) (by omega), hro i (by omega)]
          refine gy_findN hb hT (Or.inr hy') (fun s hs hid es => br_t (nI_pos' (by omega)) ?_) (fun z => by omega)
          have hs0 : se s ≠ 0 := by omega
          have hnd : yNd s = nI (nd (ro i)) := by rw [(hT.2.1 s hs hs0).2.2.2.1, es]
          refine gy_fld hs hnd (by omega) (fun f' hf' e => ?_) (fun hno => absurd rfl (hno f hf))
          have ef : f' = f := ((nI_eq (by omega) (by omega)).mp e).symm
          subst ef
          rw [gh_2s]
          refine ⟨pk_in (2 * s + f') 160 (by omega), ?_⟩
          have hT' := gy_T_da (v := v3) hT (fun x hx => (hb.2.2 x hx).2.2.2.1) hs hs0 (j := f') (by rw [es]; exact hf')
          rw [es] at hT'
          rw [nI_clamp (n := 2 * s + f') (by omega)]
          exact nm_e ⟨rfl, N, T, P, K, la, ids, ag, nr, nd, rf, _, ro, st, wf, h3, ⟨⟨rfl, rfl, rfl, rfl⟩, rfl, L, A, bs, os, c, rfl, gx_K_da wf kx hy' hf⟩, ⟨⟨rfl, rfl, rfl, rfl⟩, ⟨rfl, rfl, rfl, rfl, rfl, rfl, rfl, rfl⟩, hro, se, hT'⟩⟩
        · have := (nI_eq hf31 (by omega)).mp e
          omega
  · refine gx_inR0 hK8 (gh_nr h1) (br_t rfl ?_)
    unfold wpY_writeData
    exact gy_badR0 hK8 (gh_nr h1) (br_f (by decide) ⟨rfl, J⟩)
end
section
/-! what is owed: the getters -/
theorem i_vc_rootSerial {k : Nat} {u : SX} {v : SY} (I : i_Rel k u v) (hk : k + 4 ≤ 2052) (v1 : Int32) : wpX_rootSerial (fun r => wpY_rootSerial (fun r' => r' = r ∧ i_Rel (k + 4) u v) v v1) u v1 := by
  refine gi_el (Q := fun u' v' => i_Rel (k + 4) u v → wpX_rootSerial (fun r => wpY_rootSerial (fun r' => r' = r ∧ i_Rel (k + 4) u v) v' v1) u' v1) I ?_ (i_up I)
  intro N T P K la c ids ag nr nd rf da ro st L A bs os TS pF pR pP me ba ot tp ob rt rs rp fw fr sc cp se ySe yAg yNr yNd yRc yDc yRo yMk wf h3 kx hro hT J
  have hK8 : K ≤ 8 := wf.1.2.2.2.2.2.2.2.1
  unfold wpX_rootSerial
  by_cases h1 : ∃ i, i < K ∧ v1 = nI i
  · obtain ⟨i, hi, rfl⟩ := h1
    refine gx_inR1 hK8 hi (br_f (by decide) ⟨pk_in i 8 (by omega), ?_⟩)
    rw [nI_clamp (n := i) (by omega), kx.2.2.2.2.1 i (by omega)]
    refine gx_serialAt wf kx (wf.2.2.2.2.1 i) ?_
    unfold wpY_rootSerial
    refine gy_badR1 hK8 hi (br_t rfl ⟨pk_in i 8 (by omega), ?_⟩)
    rw [nI_clamp (n := i) (by omega), hro i (by omega)]
    exact ⟨rfl, J⟩
  · refine gx_inR0 hK8 (gh_nr h1) (br_t rfl ?_)
    unfold wpY_rootSerial
    exact gy_badR0 hK8 (gh_nr h1) (br_f (by decide) ⟨rfl, J⟩)
theorem i_vc_age {k : Nat} {u : SX} {v : SY} (I : i_Rel k u v) (hk : k + 4 ≤ 2052) (v1 : Int32) : wpX_age (fun r => wpY_age (fun r' => r' = r ∧ i_Rel (k + 4) u v) v v1) u v1 := by
  refine gi_el (Q := fun u' v' => i_Rel (k + 4) u v → wpX_age (fun r => wpY_age (fun r' => r' = r ∧ i_Rel (k + 4) u v) v' v1) u' v1) I ?_ (i_up I)
  intro N T P K la c ids ag nr nd rf da ro st L A bs os TS pF pR pP me ba ot tp ob rt rs rp fw fr sc cp se ySe yAg yNr yNd yRc yDc yRo yMk wf h3 kx hro hT J
  have hb := gh_bd_of wf
  unfold wpX_age
  refine gx_find wf kx h3 (fun x hx e => ?_) (fun hno => br_t rfl ?_)
  · have hin := gx_in wf kx hx
    have hw := gh_w2 (nr := nr) (nd := nd) (x := x)
    refine br_f (nI_ne0 (by omega) (by omega)) (gx_ageAt (gx_dscA wf kx hx) ?_)
    subst e
    unfold wpY_age
    refine gy_findN hb hT (Or.inr hx) (fun s hs _ es => br_t (nI_pos' (by omega)) ⟨pk_in s 80 hs, ?_⟩) (fun z => by have := (hb.2.2 x hx).1; omega)
    have hs0 : se s ≠ 0 := by have := (hb.2.2 x hx).1; omega
    rw [nI_clamp (n := s) (by omega), (hT.2.1 s hs hs0).2.1, es]
    exact ⟨rfl, J⟩
  · unfold wpY_age
    exact gy_find hb hT (fun s hs hs0 e => absurd e (hno _ (hT.2.1 s hs hs0).1)) (fun _ => br_f (by decide) ⟨rfl, J⟩)
theorem i_vc_shape {k : Nat} {u : SX} {v : SY} (I : i_Rel k u v) (hk : k + 4 ≤ 2052) (v1 : Int32) : wpX_shape (fun r => wpY_shape (fun r' => r' = r ∧ i_Rel (k + 4) u v) v v1) u v1 := by
  refine gi_el (Q := fun u' v' => i_Rel (k + 4) u v → wpX_shape (fun r => wpY_shape (fun r' => r' = r ∧ i_Rel (k + 4) u v) v' v1) u' v1) I ?_ (i_up I)
  intro N T P K la c ids ag nr nd rf da ro st L A bs os TS pF pR pP me ba ot tp ob rt rs rp fw fr sc cp se ySe yAg yNr yNd yRc yDc yRo yMk wf h3 kx hro hT J
  have hb := gh_bd_of wf
  unfold wpX_shape
  refine gx_find wf kx h3 (fun x hx e => ?_) (fun hno => br_t rfl ?_)
  · have hin := gx_in wf kx hx
    have hw := gh_w2 (nr := nr) (nd := nd) (x := x)
    refine br_f (nI_ne0 (by omega) (by omega)) (gx_refsAt (gx_dscA wf kx hx) (gx_dataAt (gx_dscA wf kx hx) ?_))
    subst e
    unfold wpY_shape
    refine gy_findN hb hT (Or.inr hx) (fun s hs _ es => br_t (nI_pos' (by omega)) ⟨pk_in s 80 hs, pk_in s 80 hs, ?_⟩) (fun z => by have := (hb.2.2 x hx).1; omega)
    have hs0 : se s ≠ 0 := by have := (hb.2.2 x hx).1; omega
    rw [nI_clamp (n := s) (by omega), (hT.2.1 s hs hs0).2.2.1, (hT.2.1 s hs hs0).2.2.2.1, es]
    exact ⟨rfl, J⟩
  · unfold wpY_shape
    exact gy_find hb hT (fun s hs hs0 e => absurd e (hno _ (hT.2.1 s hs hs0).1)) (fun _ => br_f (by decide) ⟨rfl, J⟩)
theorem i_vc_field {k : Nat} {u : SX} {v : SY} (I : i_Rel k u v) (hk : k + 4 ≤ 2052) (v1 : Int32) (v2 : Int32) : wpX_field (fun r => wpY_field (fun r' => r' = r ∧ i_Rel (k + 4) u v) v v1 v2) u v1 v2 := by
  refine gi_el (Q := fun u' v' => i_Rel (k + 4) u v → wpX_field (fun r => wpY_field (fun r' => r' = r ∧ i_Rel (k + 4) u v) v' v1 v2) u' v1 v2) I ?_ (i_up I)
  intro N T P K la c ids ag nr nd rf da ro st L A bs os TS pF pR pP me ba ot tp ob rt rs rp fw fr sc cp se ySe yAg yNr yNd yRc yDc yRo yMk wf h3 kx hro hT J
  have hb := gh_bd_of wf
  unfold wpX_field
  refine gx_find wf kx h3 (fun x hx e => ?_) (fun hno => br_t rfl ?_)
  · have hin := gx_in wf kx hx
    have hw : gh_w nr nd x = 2 + nr x + nd x := rfl
    have hx' := hb.2.2 x hx
    subst e
    have bad : (∀ f, f < nr x → v2 ≠ nI f) → wpY_field (fun r' => r' = -5 ∧ i_Rel (k + 4) u v) (nI N, nI T, nI P, nI K, st 0, st 1, st 2, st 3, st 4, st 5, st 6, st 7, ySe, yAg, yNr, yNd, yRc, yDc, yRo, yMk) (nI x) v2 := by
      intro hno
      unfold wpY_field
      refine gy_findN hb hT (Or.inr hx) (fun s hs _ es => br_t (nI_pos' (by omega)) ?_) (fun z => by omega)
      have hnr : yNr s = nI (nr x) := by rw [(hT.2.1 s hs (by omega)).2.2.1, es]
      exact gy_fld hs hnr (by omega) (fun f hf e => absurd e (hno f hf)) (fun _ => ⟨rfl, J⟩)
    refine br_f (nI_ne0 (by omega) (by omega)) (br_c (fun h => bad (fun f hf e => ?_)) (fun h => gx_refsAt (gx_dscA wf kx hx) ?_))
    · rw [e] at h; exact nI_pos (by omega) h
    · obtain ⟨f, hf31, rfl⟩ := nI_of h
      refine pk_lt f (nr x) (fun hf => ?_) (fun hf => bad (fun f' hf' e => ?_))
      · rw [gh_a2]
        refine ⟨pk_in (A x + 2 + f) 392 (by omega), ?_⟩
        rw [nI_clamp (n := A x + 2 + f) (by omega), (kx.2.2.2.1 x hx).2.2.1 f hf]
        refine gx_serialAt wf kx (wf.2.2.2.1 x f hx hf) ?_
        unfold wpY_field
        refine gy_findN hb hT (Or.inr hx) (fun s hs _ es => br_t (nI_pos' (by omega)) ?_) (fun z => by omega)
        have hs0 : se s ≠ 0 := by omega
        have hnr : yNr s = nI (nr x) := by rw [(hT.2.1 s hs hs0).2.2.1, es]
        refine gy_fld hs hnr (by omega) (fun f' hf' e => ?_) (fun hno => absurd rfl (hno f hf))
        have ef : f' = f := ((nI_eq (by omega) (by omega)).mp e).symm
        subst ef
        rw [gh_3s]
        refine ⟨pk_in (3 * s + f') 240 (by omega), ?_⟩
        have hrc := (hT.2.1 s hs hs0).2.2.2.2.1 f' (by rw [es]; exact hf')
        rw [es] at hrc
        rw [nI_clamp (n := 3 * s + f') (by omega), hrc]
        exact ⟨rfl, J⟩
      · have := (nI_eq hf31 (by omega)).mp e
        omega
  · unfold wpY_field
    exact gy_find hb hT (fun s hs hs0 e => absurd e (hno _ (hT.2.1 s hs hs0).1)) (fun _ => br_f (by decide) ⟨rfl, J⟩)
theorem i_vc_data {k : Nat} {u : SX} {v : SY} (I : i_Rel k u v) (hk : k + 4 ≤ 2052) (v1 : Int32) (v2 : Int32) : wpX_data (fun r => wpY_data (fun r' => r' = r ∧ i_Rel (k + 4) u v) v v1 v2) u v1 v2 := by
  refine gi_el (Q := fun u' v' => i_Rel (k + 4) u v → wpX_data (fun r => wpY_data (fun r' => r' = r ∧ i_Rel (k + 4) u v) v' v1 v2) u' v1 v2) I ?_ (i_up I)
  intro N T P K la c ids ag nr nd rf da ro st L A bs os TS pF pR pP me ba ot tp ob rt rs rp fw fr sc cp se ySe yAg yNr yNd yRc yDc yRo yMk wf h3 kx hro hT J
  have hb := gh_bd_of wf
  unfold wpX_data
  refine gx_find wf kx h3 (fun x hx e => ?_) (fun hno => br_t rfl ?_)
  · have hin := gx_in wf kx hx
    have hw : gh_w nr nd x = 2 + nr x + nd x := rfl
    have hx' := hb.2.2 x hx
    subst e
    have bad : (∀ f, f < nd x → v2 ≠ nI f) → wpY_data (fun r' => r' = 0 ∧ i_Rel (k + 4) u v) (nI N, nI T, nI P, nI K, st 0, st 1, st 2, st 3, st 4, st 5, st 6, st 7, ySe, yAg, yNr, yNd, yRc, yDc, yRo, yMk) (nI x) v2 := by
      intro hno
      unfold wpY_data
      refine gy_findN hb hT (Or.inr hx) (fun s hs _ es => br_t (nI_pos' (by omega)) ?_) (fun z => by omega)
      have hnd : yNd s = nI (nd x) := by rw [(hT.2.1 s hs (by omega)).2.2.2.1, es]
      exact gy_fld hs hnd (by omega) (fun f hf e => absurd e (hno f hf)) (fun _ => ⟨rfl, J⟩)
    refine br_f (nI_ne0 (by omega) (by omega)) (br_c (fun h => bad (fun f hf e => ?_)) (fun h => gx_dataAt (gx_dscA wf kx hx) ?_))
    · rw [e] at h; exact nI_pos (by omega) h
    · obtain ⟨f, hf31, rfl⟩ := nI_of h
      refine pk_lt f (nd x) (fun hf => gx_refsAt (gx_dscA wf kx hx) (nm_r (e' := nI (A x + 2 + nr x + f)) ?_ ⟨pk_in (A x + 2 + nr x + f) 392 (by omega), ?_⟩)) (fun hf => bad (fun f' hf' e => ?_))
      · rw [← nI_add, ← nI_add, ← nI_add]; rfl
      · rw [nI_clamp (n := A x + 2 + nr x + f) (by omega), (kx.2.2.2.1 x hx).2.2.2 f hf]
        unfold wpY_data
        refine gy_findN hb hT (Or.inr hx) (fun s hs _ es => br_t (nI_pos' (by omega)) ?_) (fun z => by omega)
        have hs0 : se s ≠ 0 := by omega
        have hnd : yNd s = nI (nd x) := by rw [(hT.2.1 s hs hs0).2.2.2.1, es]
        refine gy_fld hs hnd (by omega) (fun f' hf' e => ?_) (fun hno => absurd rfl (hno f hf))
        have ef : f' = f := ((nI_eq (by omega) (by omega)).mp e).symm
        subst ef
        rw [gh_2s]
        refine ⟨pk_in (2 * s + f') 160 (by omega), ?_⟩
        have hdc := (hT.2.1 s hs hs0).2.2.2.2.2 f' (by rw [es]; exact hf')
        rw [es] at hdc
        rw [nI_clamp (n := 2 * s + f') (by omega), hdc]
        exact ⟨rfl, J⟩
      · have := (nI_eq hf31 (by omega)).mp e
        omega
  · unfold wpY_data
    exact gy_find hb hT (fun s hs hs0 e => absurd e (hno _ (hT.2.1 s hs hs0).1)) (fun _ => br_f (by decide) ⟨rfl, J⟩)
theorem i_vc_nextSerial {k : Nat} {u : SX} {v : SY} (I : i_Rel k u v) (hk : k + 4 ≤ 2052) (v1 : Int32) : wpX_nextSerial (fun r => wpY_nextSerial (fun r' => r' = r ∧ i_Rel (k + 4) u v) v v1) u v1 := by
  refine gi_el (Q := fun u' v' => i_Rel (k + 4) u v → wpX_nextSerial (fun r => wpY_nextSerial (fun r' => r' = r ∧ i_Rel (k + 4) u v) v' v1) u' v1) I ?_ (i_up I)
  intro N T P K la c ids ag nr nd rf da ro st L A bs os TS pF pR pP me ba ot tp ob rt rs rp fw fr sc cp se ySe yAg yNr yNd yRc yDc yRo yMk wf h3 kx hro hT J
  refine gx_nextSerial wf kx (fun q _ hq => gy_nextSerial (gh_bd_of wf) hT (fun q' _ hq' => ⟨?_, J⟩))
  rw [gh_minS_uniq hq hq']
theorem gh_spc {v : Int32} : (∃ s, s < 3 ∧ v = nI s) ∨ (v < 0) ∨ (¬ v < 0 ∧ 2 < v) := by
  by_cases h : v < 0
  · exact Or.inr (Or.inl h)
  · obtain ⟨s, hs, rfl⟩ := nI_of h
    by_cases h2 : s < 3
    · exact Or.inl ⟨s, h2, rfl⟩
    · exact Or.inr (Or.inr ⟨h, nI_lt (a := 2) (by omega) hs⟩)
theorem i_vc_used {k : Nat} {u : SX} {v : SY} (I : i_Rel k u v) (hk : k + 4 ≤ 2052) (v1 : Int32) : wpX_used (fun r => wpY_used (fun r' => r' = r ∧ i_Rel (k + 4) u v) v v1) u v1 := by
  refine gi_el (Q := fun u' v' => i_Rel (k + 4) u v → wpX_used (fun r => wpY_used (fun r' => r' = r ∧ i_Rel (k + 4) u v) v' v1) u' v1) I ?_ (i_up I)
  intro N T P K la c ids ag nr nd rf da ro st L A bs os TS pF pR pP me ba ot tp ob rt rs rp fw fr sc cp se ySe yAg yNr yNd yRc yDc yRo yMk wf h3 kx hro hT J
  unfold wpX_used wpX_isSpace
  rcases gh_spc (v := v1) with ⟨s, hs, rfl⟩ | h | ⟨h, h2⟩
  · obtain ⟨h1, h2, h3, h4, h5, h6, h7⟩ := kx.2.2.1 s hs
    refine br_f (nI_pos (by omega)) (br_f (nI_nlt (b := s) (a := 2) (by omega) (by omega)) (br_f (by decide) (gx_words hs h6 h4 (by omega) ?_)))
    rw [Nat.add_sub_cancel_left, gx_Lsum wf.2.1 kx hs]
    exact gy_used hs wf.2.1 (gh_bd_of wf) hT rfl ⟨rfl, J⟩
  · refine br_t h (br_t rfl ?_)
    unfold wpY_used
    exact br_t h ⟨rfl, J⟩
  · refine br_f h (br_t h2 (br_t rfl ?_))
    unfold wpY_used
    exact br_f h (br_f (Int32.not_le.mpr h2) ⟨rfl, J⟩)
theorem i_vc_count {k : Nat} {u : SX} {v : SY} (I : i_Rel k u v) (hk : k + 4 ≤ 2052) (v1 : Int32) : wpX_count (fun r => wpY_count (fun r' => r' = r ∧ i_Rel (k + 4) u v) v v1) u v1 := by
  refine gi_el (Q := fun u' v' => i_Rel (k + 4) u v → wpX_count (fun r => wpY_count (fun r' => r' = r ∧ i_Rel (k + 4) u v) v' v1) u' v1) I ?_ (i_up I)
  intro N T P K la c ids ag nr nd rf da ro st L A bs os TS pF pR pP me ba ot tp ob rt rs rp fw fr sc cp se ySe yAg yNr yNd yRc yDc yRo yMk wf h3 kx hro hT J
  unfold wpX_count wpX_isSpace
  rcases gh_spc (v := v1) with ⟨s, hs, rfl⟩ | h | ⟨h, h2⟩
  · obtain ⟨h1, h2, h3, h4, h5, h6, h7⟩ := kx.2.2.1 s hs
    refine br_f (nI_pos (by omega)) (br_f (nI_nlt (b := s) (a := 2) (by omega) (by omega)) (br_f (by decide) ⟨pk_in s 3 hs, ?_⟩))
    rw [nI_clamp (n := s) (by omega), h7, ← gh_S_1, gx_Lsum wf.2.1 kx hs]
    exact gy_count hs wf.2.1 (gh_bd_of wf) hT rfl ⟨rfl, J⟩
  · refine br_t h (br_t rfl ?_)
    unfold wpY_count
    exact br_t h ⟨rfl, J⟩
  · refine br_f h (br_t h2 (br_t rfl ?_))
    unfold wpY_count
    exact br_f h (br_f (Int32.not_le.mpr h2) ⟨rfl, J⟩)
theorem i_vc_capacity {k : Nat} {u : SX} {v : SY} (I : i_Rel k u v) (hk : k + 4 ≤ 2052) (v1 : Int32) : wpX_capacity (fun r => wpY_capacity (fun r' => r' = r ∧ i_Rel (k + 4) u v) v v1) u v1 := by
  refine gi_el (Q := fun u' v' => i_Rel (k + 4) u v → wpX_capacity (fun r => wpY_capacity (fun r' => r' = r ∧ i_Rel (k + 4) u v) v' v1) u' v1) I ?_ (i_up I)
  intro N T P K la c ids ag nr nd rf da ro st L A bs os TS pF pR pP me ba ot tp ob rt rs rp fw fr sc cp se ySe yAg yNr yNd yRc yDc yRo yMk wf h3 kx hro hT J
  unfold wpX_capacity wpY_capacity
  refine br_c (fun h => br_t h ⟨rfl, J⟩) (fun h => br_c (fun h1 => br_f h (br_t h1 ⟨rfl, J⟩)) (fun h1 => br_c (fun h2 => br_f h (br_f h1 (br_t h2 ⟨rfl, J⟩))) (fun h2 => br_f h (br_f h1 (br_f h2 ⟨rfl, J⟩)))))
theorem i_vc_crossings {k : Nat} {u : SX} {v : SY} (I : i_Rel k u v) (hk : k + 4 ≤ 2052) : wpX_crossings (fun r => wpY_crossings (fun r' => r' = r ∧ i_Rel (k + 4) u v) v) u := by
  refine gi_el (Q := fun u' v' => i_Rel (k + 4) u v → wpX_crossings (fun r => wpY_crossings (fun r' => r' = r ∧ i_Rel (k + 4) u v) v') u') I ?_ (i_up I)
  intro N T P K la c ids ag nr nd rf da ro st L A bs os TS pF pR pP me ba ot tp ob rt rs rp fw fr sc cp se ySe yAg yNr yNd yRc yDc yRo yMk wf h3 kx hro hT J
  unfold wpX_crossings
  refine gy_crossings wf.2.1 (gh_bd_of wf) hT rfl wf.2.2.2.1 ⟨?_, J⟩
  rw [← gx_ccount wf kx]
theorem i_vc_statistic {k : Nat} {u : SX} {v : SY} (I : i_Rel k u v) (hk : k + 4 ≤ 2052) (v1 : Int32) : wpX_statistic (fun r => wpY_statistic (fun r' => r' = r ∧ i_Rel (k + 4) u v) v v1) u v1 := by
  refine gi_el (Q := fun u' v' => i_Rel (k + 4) u v → wpX_statistic (fun r => wpY_statistic (fun r' => r' = r ∧ i_Rel (k + 4) u v) v' v1) u' v1) I ?_ (i_up I)
  intro N T P K la c ids ag nr nd rf da ro st L A bs os TS pF pR pP me ba ot tp ob rt rs rp fw fr sc cp se ySe yAg yNr yNd yRc yDc yRo yMk wf h3 kx hro hT J
  have ne : ∀ s, 8 ≤ s → s < 2 ^ 31 → ∀ j, j < 8 → ¬ nI s = nI j := fun s h1 h2 j hj e => by have := (nI_eq h2 (by omega)).mp e; omega
  have bad : (∀ j, j < 8 → v1 ≠ nI j) → wpY_statistic (fun r' => r' = -8 ∧ i_Rel (k + 4) u v) (nI N, nI T, nI P, nI K, st 0, st 1, st 2, st 3, st 4, st 5, st 6, st 7, ySe, yAg, yNr, yNd, yRc, yDc, yRo, yMk) v1 := by
    intro h
    unfold wpY_statistic
    exact br_f (h 0 (by omega)) (br_f (h 1 (by omega)) (br_f (h 2 (by omega)) (br_f (h 3 (by omega)) (br_f (h 4 (by omega)) (br_f (h 5 (by omega)) (br_f (h 6 (by omega)) (br_f (h 7 (by omega)) ⟨rfl, J⟩)))))))
  unfold wpX_statistic
  refine br_c (fun h => bad (fun j hj e => ?_)) (fun h => ?_)
  · rw [e] at h; exact nI_pos (by omega) h
  · obtain ⟨s, hs, rfl⟩ := nI_of h
    refine pk_le s 7 (fun h7 => ⟨pk_in s 8 (by omega), ?_⟩) (fun h7 => bad (fun j hj => ne s (by omega) hs j hj))
    rw [nI_clamp (n := s) (by omega)]
    unfold wpY_statistic
    have hc : s = 0 ∨ s = 1 ∨ s = 2 ∨ s = 3 ∨ s = 4 ∨ s = 5 ∨ s = 6 ∨ s = 7 := by omega
    rcases hc with e | e | e | e | e | e | e | e <;> subst e
    · exact br_t rfl ⟨rfl, J⟩
    · exact br_f (by decide) (br_t rfl ⟨rfl, J⟩)
    · exact br_f (by decide) (br_f (by decide) (br_t rfl ⟨rfl, J⟩))
    · exact br_f (by decide) (br_f (by decide) (br_f (by decide) (br_t rfl ⟨rfl, J⟩)))
    · exact br_f (by decide) (br_f (by decide) (br_f (by decide) (br_f (by decide) (br_t rfl ⟨rfl, J⟩))))
    · exact br_f (by decide) (br_f (by decide) (br_f (by decide) (br_f (by decide) (br_f (by decide) (br_t rfl ⟨rfl, J⟩)))))
    · exact br_f (by decide) (br_f (by decide) (br_f (by decide) (br_f (by decide) (br_f (by decide) (br_f (by decide) (br_t rfl ⟨rfl, J⟩))))))
    · exact br_f (by decide) (br_f (by decide) (br_f (by decide) (br_f (by decide) (br_f (by decide) (br_f (by decide) (br_f (by decide) (br_t rfl ⟨rfl, J⟩)))))))
end

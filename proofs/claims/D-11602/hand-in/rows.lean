section
/-! permutations of six points: pairs of functions on Nat, inverse to each other, the identity from 6 on -/
def pg_T : Type := {p : (Nat → Nat) × (Nat → Nat) // (∀ x, p.2 (p.1 x) = x) ∧ (∀ x, p.1 (p.2 x) = x) ∧ ∀ x, 6 ≤ x → p.1 x = x}
def pg_f (p : pg_T) : Nat → Nat := p.1.1
def pg_g (p : pg_T) : Nat → Nat := p.1.2
theorem pg_gf (p : pg_T) (x : Nat) : pg_g p (pg_f p x) = x := p.2.1 x
theorem pg_fg (p : pg_T) (x : Nat) : pg_f p (pg_g p x) = x := p.2.2.1 x
theorem pg_f6 (p : pg_T) {x : Nat} (h : 6 ≤ x) : pg_f p x = x := p.2.2.2 x h
theorem pg_g6 (p : pg_T) {x : Nat} (h : 6 ≤ x) : pg_g p x = x := by
  have h1 := pg_gf p x
  rw [pg_f6 p h] at h1
  exact h1
theorem pg_inj (p : pg_T) {x y : Nat} (h : pg_f p x = pg_f p y) : x = y := by
  have h1 := pg_gf p x
  rw [h, pg_gf] at h1
  exact h1.symm
theorem pg_lt (p : pg_T) {x : Nat} (h : x < 6) : pg_f p x < 6 := by
  rcases Nat.lt_or_ge (pg_f p x) 6 with z | z
  · exact z
  · have h1 := pg_f6 p z
    have h2 := pg_inj p h1
    omega
theorem pg_glt (p : pg_T) {x : Nat} (h : x < 6) : pg_g p x < 6 := by
  rcases Nat.lt_or_ge (pg_g p x) 6 with z | z
  · exact z
  · have h1 := pg_f6 p z
    rw [pg_fg] at h1
    omega
theorem pg_ext {p q : pg_T} (h : ∀ x, x < 6 → pg_f p x = pg_f q x) : p = q := by
  have h1 : pg_f p = pg_f q := by
    funext x
    rcases Nat.lt_or_ge x 6 with z | z
    · exact h x z
    · rw [pg_f6 p z, pg_f6 q z]
  have h2 : pg_g p = pg_g q := by
    funext y
    have h3 := pg_gf q (pg_g p y)
    rw [← h1, pg_fg] at h3
    exact h3.symm
  exact Subtype.ext (Prod.ext h1 h2)
def pg_one : pg_T := ⟨(fun x => x, fun x => x), fun _ => rfl, fun _ => rfl, fun _ _ => rfl⟩
/-- first p, then q -/
def pg_mul (p q : pg_T) : pg_T := ⟨(fun x => pg_f q (pg_f p x), fun x => pg_g p (pg_g q x)),
  fun x => by show pg_g p (pg_g q (pg_f q (pg_f p x))) = x; rw [pg_gf, pg_gf],
  fun x => by show pg_f q (pg_f p (pg_g p (pg_g q x))) = x; rw [pg_fg, pg_fg],
  fun x h => by show pg_f q (pg_f p x) = x; rw [pg_f6 p h, pg_f6 q h]⟩
def pg_inv (p : pg_T) : pg_T := ⟨(pg_g p, pg_f p), pg_fg p, pg_gf p, fun x h => pg_g6 p h⟩
theorem pg_f_one (x : Nat) : pg_f pg_one x = x := rfl
theorem pg_f_mul (p q : pg_T) (x : Nat) : pg_f (pg_mul p q) x = pg_f q (pg_f p x) := rfl
theorem pg_f_inv (p : pg_T) (x : Nat) : pg_f (pg_inv p) x = pg_g p x := rfl
theorem pg_assoc (a b c : pg_T) : pg_mul (pg_mul a b) c = pg_mul a (pg_mul b c) := pg_ext (fun _ _ => rfl)
theorem pg_mul_one (a : pg_T) : pg_mul a pg_one = a := pg_ext (fun _ _ => rfl)
theorem pg_one_mul (a : pg_T) : pg_mul pg_one a = a := pg_ext (fun _ _ => rfl)
theorem pg_mul_inv (a : pg_T) : pg_mul a (pg_inv a) = pg_one := pg_ext (fun x _ => pg_gf a x)
theorem pg_inv_mul (a : pg_T) : pg_mul (pg_inv a) a = pg_one := pg_ext (fun x _ => pg_fg a x)
theorem pg_inv_inv (a : pg_T) : pg_inv (pg_inv a) = a := pg_ext (fun _ _ => rfl)
theorem pg_inv_one : pg_inv pg_one = pg_one := pg_ext (fun _ _ => rfl)
theorem pg_inv_rev (a b : pg_T) : pg_inv (pg_mul a b) = pg_mul (pg_inv b) (pg_inv a) := pg_ext (fun _ _ => rfl)
theorem pg_can (a b : pg_T) : pg_mul (pg_mul a b) (pg_inv b) = a := pg_ext (fun x _ => pg_gf b _)
theorem pg_can' (a b : pg_T) : pg_mul (pg_mul a (pg_inv b)) b = a := pg_ext (fun x _ => pg_fg b _)
theorem pg_mul_inj {a b c : pg_T} (h : pg_mul a c = pg_mul b c) : a = b := by
  rw [← pg_can a c, h, pg_can]
/-! subgroups, the subgroup that a set generates -/
def pg_sub (H : pg_T → Prop) : Prop := H pg_one ∧ (∀ a b, H a → H b → H (pg_mul a b)) ∧ (∀ a, H a → H (pg_inv a))
def pg_gen (S : pg_T → Prop) (a : pg_T) : Prop := ∀ H : pg_T → Prop, pg_sub H → (∀ s, S s → H s) → H a
theorem pg_gen_sub (S : pg_T → Prop) : pg_sub (pg_gen S) :=
  ⟨fun H hH _ => hH.1, fun a b ha hb H hH hS => hH.2.1 a b (ha H hH hS) (hb H hH hS), fun a ha H hH hS => hH.2.2 a (ha H hH hS)⟩
theorem pg_gen_in {S : pg_T → Prop} {s : pg_T} (h : S s) : pg_gen S s := fun H _ hS => hS s h
theorem pg_gen_le {S H : pg_T → Prop} {a : pg_T} (hH : pg_sub H) (h : ∀ s, S s → H s) (ha : pg_gen S a) : H a := ha H hH h
theorem pg_gen_mono {S T : pg_T → Prop} (h : ∀ s, S s → pg_gen T s) {a : pg_T} (ha : pg_gen S a) : pg_gen T a := ha _ (pg_gen_sub T) h
/-! a classical test as a Bool -/
noncomputable def pg_d (P : Prop) : Bool := @decide P (Classical.propDecidable P)
theorem pg_d_iff {P : Prop} : pg_d P = true ↔ P := by
  unfold pg_d
  exact @decide_eq_true_iff P (Classical.propDecidable P)
theorem pg_d_t {P : Prop} (h : P) : pg_d P = true := pg_d_iff.mpr h
theorem pg_d_f {P : Prop} (h : ¬ P) : pg_d P = false := by
  cases e : pg_d P with
  | false => rfl
  | true => exact absurd (pg_d_iff.mp e) h
/-! lists without doubles -/
theorem pg_nd_map {α β : Type} (f : α → β) {l : List α} (hi : ∀ a b, a ∈ l → b ∈ l → f a = f b → a = b) (h : l.Nodup) : (l.map f).Nodup :=
  List.pairwise_map.mpr (List.Pairwise.imp_of_mem (fun ha hb hn he => hn (hi _ _ ha hb he)) h)
theorem pg_nd_fil {α : Type} (p : α → Bool) {l : List α} (h : l.Nodup) : (l.filter p).Nodup := List.Pairwise.filter p h
/-- what a permutation takes into itself, its inverse takes into itself -/
theorem pg_back (O : Nat → Prop) (s : pg_T) (h6 : ∀ y, O y → y < 6) (h : ∀ y, O y → O (pg_f s y)) {y : Nat} (hy : O (pg_f s y)) : O y := by
  apply Classical.byContradiction
  intro hn
  have hl : ∀ z, z ∈ (List.range 6).filter (fun z => pg_d (O z)) ↔ O z := by
    intro z
    rw [List.mem_filter, List.mem_range, pg_d_iff]
    exact ⟨fun t => t.2, fun t => ⟨h6 z t, t⟩⟩
  have nd : ((y :: (List.range 6).filter (fun z => pg_d (O z))).map (pg_f s)).Nodup :=
    pg_nd_map _ (fun a b _ _ e => pg_inj s e) (List.nodup_cons.mpr ⟨fun z => hn ((hl y).mp z), pg_nd_fil _ List.nodup_range⟩)
  have sb : (y :: (List.range 6).filter (fun z => pg_d (O z))).map (pg_f s) ⊆ (List.range 6).filter (fun z => pg_d (O z)) := by
    intro z hz
    obtain ⟨w, hw, rfl⟩ := List.mem_map.mp hz
    rw [hl]
    rcases List.mem_cons.mp hw with e | e
    · rw [e]; exact hy
    · exact h w ((hl w).mp e)
  have := nd.length_le_of_subset sb
  rw [List.length_map, List.length_cons] at this
  omega
theorem pg_back' (O : Nat → Prop) (s : pg_T) (h6 : ∀ y, O y → y < 6) (h : ∀ y, O y → O (pg_f s y)) {y : Nat} (hy : O y) : O (pg_g s y) :=
  pg_back O s h6 h (by rw [pg_fg]; exact hy)
/-! sizes -/
def pg_hc (G : pg_T → Prop) (N : Nat) : Prop := ∃ l : List pg_T, l.Nodup ∧ (∀ a, a ∈ l ↔ G a) ∧ l.length = N
theorem pg_hc_le {F G : pg_T → Prop} {M N : Nat} (hF : pg_hc F M) (hG : pg_hc G N) (h : ∀ a, F a → G a) : M ≤ N := by
  obtain ⟨l, nl, ml, rfl⟩ := hF
  obtain ⟨k, nk, mk, rfl⟩ := hG
  exact nl.length_le_of_subset (fun a ha => (mk a).mpr (h a ((ml a).mp ha)))
theorem pg_hc_uniq {G : pg_T → Prop} {M N : Nat} (hF : pg_hc G M) (hG : pg_hc G N) : M = N :=
  Nat.le_antisymm (pg_hc_le hF hG (fun _ h => h)) (pg_hc_le hG hF (fun _ h => h))
theorem pg_hc_congr {F G : pg_T → Prop} {N : Nat} (h : ∀ a, F a ↔ G a) (hF : pg_hc F N) : pg_hc G N := by
  obtain ⟨l, nl, ml, e⟩ := hF
  exact ⟨l, nl, fun a => (ml a).trans (h a), e⟩
theorem pg_hc_pos {G : pg_T → Prop} {N : Nat} (hG : pg_hc G N) {a : pg_T} (h : G a) : 1 ≤ N := by
  obtain ⟨l, nl, ml, rfl⟩ := hG
  exact List.length_pos_of_mem ((ml a).mpr h)
/-- the image under an injection -/
theorem pg_hc_map {F G : pg_T → Prop} {N : Nat} (φ ψ : pg_T → pg_T) (h1 : ∀ a, F a → G (φ a)) (h2 : ∀ a, G a → F (ψ a)) (h3 : ∀ a, φ (ψ a) = a) (h4 : ∀ a, ψ (φ a) = a) (hF : pg_hc F N) : pg_hc G N := by
  obtain ⟨l, nl, ml, rfl⟩ := hF
  refine ⟨l.map φ, pg_nd_map φ (fun a b _ _ e => by rw [← h4 a, e, h4]) nl, fun a => ?_, List.length_map _⟩
  constructor
  · intro ha
    obtain ⟨b, hb, rfl⟩ := List.mem_map.mp ha
    exact h1 b ((ml b).mp hb)
  · intro ha
    exact List.mem_map.mpr ⟨ψ a, (ml _).mpr (h2 a ha), h3 a⟩
theorem pg_lagL {F : pg_T → Prop} (hF : pg_sub F) {lf : List pg_T} (nf : lf.Nodup) (mf : ∀ a, a ∈ lf ↔ F a) : ∀ (n : Nat) (l : List pg_T), l.length = n → l.Nodup → (∀ a f, a ∈ l → F f → pg_mul f a ∈ l) → lf.length ∣ n := by
  intro n
  induction n using Nat.strongRecOn with
  | _ n ih =>
    intro l hl nd cl
    cases l with
    | nil =>
      rw [← hl]
      exact Nat.dvd_zero _
    | cons s t =>
      generalize hL : s :: t = L at hl nd cl
      have hs : s ∈ L := by rw [← hL]; exact List.mem_cons_self
      have hsum : (L.filter (fun x => pg_d (F (pg_mul x (pg_inv s))))).length + (L.filter (fun x => pg_d (¬ F (pg_mul x (pg_inv s))))).length = n := by
        have hlen := List.length_eq_countP_add_countP (fun x => pg_d (F (pg_mul x (pg_inv s)))) (l := L)
        rw [List.countP_eq_length_filter, List.countP_eq_length_filter] at hlen
        rw [← hl, hlen]
        congr 2
        apply List.filter_congr
        intro x _
        by_cases hx : F (pg_mul x (pg_inv s))
        · rw [pg_d_t hx, pg_d_f (fun z => z hx)]; rfl
        · rw [pg_d_f hx, pg_d_t hx]; rfl
      have hc : (L.filter (fun x => pg_d (F (pg_mul x (pg_inv s))))).length = lf.length := by
        apply Nat.le_antisymm
        · rw [← List.length_map (as := lf) (fun f => pg_mul f s)]
          apply List.Nodup.length_le_of_subset (pg_nd_fil _ nd)
          intro x hx
          rw [List.mem_filter, pg_d_iff] at hx
          exact List.mem_map.mpr ⟨_, (mf _).mpr hx.2, pg_can' x s⟩
        · rw [← List.length_map (as := lf) (fun f => pg_mul f s)]
          apply List.Nodup.length_le_of_subset (pg_nd_map _ (fun a b _ _ e => pg_mul_inj e) nf)
          intro x hx
          obtain ⟨f, hf, rfl⟩ := List.mem_map.mp hx
          rw [List.mem_filter, pg_d_iff, pg_can]
          exact ⟨cl s f hs ((mf f).mp hf), (mf f).mp hf⟩
      have hpos : 1 ≤ lf.length := List.length_pos_of_mem ((mf _).mpr hF.1)
      have hr := ih (L.filter (fun x => pg_d (¬ F (pg_mul x (pg_inv s))))).length (by omega) _ rfl (pg_nd_fil _ nd) (by
        intro a f ha hf
        rw [List.mem_filter, pg_d_iff] at ha ⊢
        refine ⟨cl a f ha.1 hf, fun z => ha.2 ?_⟩
        have e : pg_mul a (pg_inv s) = pg_mul (pg_inv f) (pg_mul (pg_mul f a) (pg_inv s)) := pg_ext (fun x _ => by
          show pg_g s (pg_f a x) = pg_g s (pg_f a (pg_f f (pg_g f x)))
          rw [pg_fg])
        rw [e]
        exact hF.2.1 _ _ (hF.2.2 _ hf) z)
      rw [← hsum, hc]
      exact Nat.dvd_add (Nat.dvd_refl _) hr
/-- Lagrange -/
theorem pg_lag {F G : pg_T → Prop} (hF : pg_sub F) (hG : pg_sub G) (h : ∀ a, F a → G a) {M N : Nat} (cF : pg_hc F M) (cG : pg_hc G N) : M ∣ N := by
  obtain ⟨l, nl, ml, rfl⟩ := cF
  obtain ⟨k, nk, mk, rfl⟩ := cG
  exact pg_lagL hF nl ml _ k rfl nk (fun a f ha hf => (mk _).mpr (hG.2.1 _ _ (h f hf) ((mk a).mp ha)))
end
section
/-! the chain: a table C i y of carriers -/
abbrev pg_C : Type := Nat → Nat → Option pg_T
def pg_fix (i : Nat) (g : pg_T) : Prop := ∀ x, x < i → pg_f g x = x
def pg_tv (C : pg_C) : Prop := (∀ i, i < 6 → C i i = some pg_one) ∧ (∀ i y p, i < 6 → C i y = some p → y < 6 ∧ pg_f p i = y ∧ pg_fix i p)
def pg_in (C : pg_C) : Nat → Nat → pg_T → Prop
  | 0, _, g => g = pg_one
  | n + 1, i, g => ∃ p, C i (pg_f g i) = some p ∧ pg_in C n (i + 1) (pg_mul g (pg_inv p))
def pg_sf (C : pg_C) : Nat → Nat → pg_T → pg_T
  | 0, _, g => g
  | n + 1, i, g => match C i (pg_f g i) with
    | none => g
    | some p => pg_sf C n (i + 1) (pg_mul g (pg_inv p))
theorem pg_sf_none {C : pg_C} {n i : Nat} {g : pg_T} (h : C i (pg_f g i) = none) : pg_sf C (n + 1) i g = g := by
  rw [pg_sf, h]
theorem pg_sf_some {C : pg_C} {n i : Nat} {g p : pg_T} (h : C i (pg_f g i) = some p) : pg_sf C (n + 1) i g = pg_sf C n (i + 1) (pg_mul g (pg_inv p)) := by
  rw [pg_sf, h]
theorem pg_fix_one (i : Nat) : pg_fix i pg_one := fun _ _ => rfl
theorem pg_fix6 {g : pg_T} (h : pg_fix 6 g) : g = pg_one := pg_ext (fun x hx => h x hx)
theorem pg_fix_mul {i : Nat} {a b : pg_T} (ha : pg_fix i a) (hb : pg_fix i b) : pg_fix i (pg_mul a b) := fun x hx => by
  rw [pg_f_mul, ha x hx, hb x hx]
theorem pg_fix_inv {i : Nat} {a : pg_T} (ha : pg_fix i a) : pg_fix i (pg_inv a) := fun x hx => by
  have h := pg_gf a x
  rw [ha x hx] at h
  exact h
theorem pg_fix_sub (i : Nat) : pg_sub (pg_fix i) := ⟨pg_fix_one i, fun _ _ ha hb => pg_fix_mul ha hb, fun _ ha => pg_fix_inv ha⟩
theorem pg_fix_le {i j : Nat} {a : pg_T} (h : i ≤ j) (ha : pg_fix j a) : pg_fix i a := fun x hx => ha x (by omega)
theorem pg_fix_s {i : Nat} {a : pg_T} (ha : pg_fix i a) (h : pg_f a i = i) : pg_fix (i + 1) a := fun x hx => by
  by_cases e : x = i
  · rw [e, h]
  · exact ha x (by omega)
/-- a step of the sifting -/
theorem pg_step_fix {C : pg_C} (tv : pg_tv C) {i : Nat} (hi : i < 6) {g p : pg_T} (hg : pg_fix i g) (h : C i (pg_f g i) = some p) : pg_fix (i + 1) (pg_mul g (pg_inv p)) := by
  obtain ⟨_, h2, h3⟩ := tv.2 i _ p hi h
  refine pg_fix_s (pg_fix_mul hg (pg_fix_inv h3)) ?_
  rw [pg_f_mul, ← h2, pg_f_inv, pg_gf]
theorem pg_in_fix {C : pg_C} (tv : pg_tv C) : ∀ (n i : Nat) (g : pg_T), n + i = 6 → pg_in C n i g → pg_fix i g := by
  intro n
  induction n with
  | zero => intro i g _ h; rw [show g = pg_one from h]; exact pg_fix_one i
  | succ n ih =>
    intro i g hn h
    obtain ⟨p, hp, h⟩ := h
    have h1 := ih (i + 1) _ (by omega) h
    rw [← pg_can' g p]
    exact pg_fix_mul (pg_fix_le (by omega) h1) (tv.2 i _ p (by omega) hp).2.2
theorem pg_sf_in {C : pg_C} (tv : pg_tv C) : ∀ (n i : Nat) (g : pg_T), n + i = 6 → pg_fix i g → (pg_sf C n i g = pg_one ↔ pg_in C n i g) := by
  intro n
  induction n with
  | zero => intro i g _ _; exact Iff.rfl
  | succ n ih =>
    intro i g hn hg
    cases e : C i (pg_f g i) with
    | none =>
      rw [pg_sf_none e]
      constructor
      · intro h
        rw [h, pg_f_one, tv.1 i (by omega)] at e
        exact absurd e (by simp)
      · intro h
        obtain ⟨p, hp, _⟩ := h
        rw [e] at hp
        exact absurd hp (by simp)
    | some p =>
      rw [pg_sf_some e, ih (i + 1) _ (by omega) (pg_step_fix tv (by omega) hg e)]
      constructor
      · intro h
        exact ⟨p, e, h⟩
      · intro h
        obtain ⟨q, hq, h⟩ := h
        rw [e] at hq
        rw [Option.some.inj hq]
        exact h
theorem pg_sf_skip {C : pg_C} (tv : pg_tv C) : ∀ (i : Nat) (g : pg_T), i ≤ 6 → pg_fix i g → pg_sf C 6 0 g = pg_sf C (6 - i) i g := by
  intro i
  induction i with
  | zero => intro g _ _; rfl
  | succ i ih =>
    intro g hi hg
    rw [ih g (by omega) (pg_fix_le (by omega) hg), show 6 - i = (6 - (i + 1)) + 1 by omega, pg_sf_some (p := pg_one) (by rw [hg i (by omega)]; exact tv.1 i (by omega)), pg_inv_one, pg_mul_one]
/-- what sifting leaves: the identity, or one that a level can't carry -/
theorem pg_sf_out {C : pg_C} (tv : pg_tv C) : ∀ (n i : Nat) (g : pg_T), n + i = 6 → pg_fix i g → pg_sf C n i g = pg_one ∨ ∃ j, j < 6 ∧ pg_fix j (pg_sf C n i g) ∧ C j (pg_f (pg_sf C n i g) j) = none := by
  intro n
  induction n with
  | zero =>
    intro i g hn hg
    rw [show i = 6 by omega] at hg
    exact Or.inl (pg_fix6 hg)
  | succ n ih =>
    intro i g hn hg
    cases e : C i (pg_f g i) with
    | none =>
      rw [pg_sf_none e]
      exact Or.inr ⟨i, by omega, hg, e⟩
    | some p =>
      rw [pg_sf_some e]
      exact ih (i + 1) _ (by omega) (pg_step_fix tv (by omega) hg e)
theorem pg_sf_mem {C : pg_C} {H : pg_T → Prop} (hH : pg_sub H) (hC : ∀ i y p, i < 6 → C i y = some p → H p) : ∀ (n i : Nat) (g : pg_T), n + i = 6 → (H (pg_sf C n i g) ↔ H g) := by
  intro n
  induction n with
  | zero => intro i g _; exact Iff.rfl
  | succ n ih =>
    intro i g hn
    cases e : C i (pg_f g i) with
    | none => rw [pg_sf_none e]
    | some p =>
      rw [pg_sf_some e, ih (i + 1) _ (by omega)]
      have hp := hC i _ p (by omega) e
      constructor
      · intro h
        have := hH.2.1 _ _ h hp
        rw [pg_can'] at this
        exact this
      · intro h
        exact hH.2.1 _ _ h (hH.2.2 _ hp)
/-! the strong generators: n of them, s k at level l k -/
def pg_S (n : Nat) (s : Nat → pg_T) (l : Nat → Nat) (i : Nat) : pg_T → Prop := fun a => ∃ k, k < n ∧ i ≤ l k ∧ a = s k
def pg_st (n : Nat) (s : Nat → pg_T) (l : Nat → Nat) : Prop := ∀ k, k < n → pg_fix (l k) (s k)
theorem pg_S_le {n : Nat} {s : Nat → pg_T} {l : Nat → Nat} {i j : Nat} (h : i ≤ j) {a : pg_T} (ha : pg_gen (pg_S n s l j) a) : pg_gen (pg_S n s l i) a :=
  pg_gen_mono (fun b hb => pg_gen_in (by obtain ⟨k, hk, hl, e⟩ := hb; exact ⟨k, hk, by omega, e⟩)) ha
theorem pg_S_fix {n : Nat} {s : Nat → pg_T} {l : Nat → Nat} (hs : pg_st n s l) {i : Nat} {a : pg_T} (ha : pg_gen (pg_S n s l i) a) : pg_fix i a :=
  pg_gen_le (pg_fix_sub i) (fun b hb => by
    obtain ⟨k, hk, hl, e⟩ := hb
    rw [e]
    exact pg_fix_le hl (hs k hk)) ha
/-- row i of the table: carriers out of the generators of level i and above, closed under them -/
def pg_rowok (n : Nat) (s : Nat → pg_T) (l : Nat → Nat) (C : pg_C) (i : Nat) : Prop :=
  C i i = some pg_one ∧ (∀ y p, C i y = some p → y < 6 ∧ pg_f p i = y ∧ pg_gen (pg_S n s l i) p) ∧ (∀ y k, k < n → i ≤ l k → C i y ≠ none → C i (pg_f (s k) y) ≠ none)
def pg_ok (n : Nat) (s : Nat → pg_T) (l : Nat → Nat) (C : pg_C) : Prop := ∀ i, i < 6 → pg_rowok n s l C i
theorem pg_ok_tv {n : Nat} {s : Nat → pg_T} {l : Nat → Nat} {C : pg_C} (hs : pg_st n s l) (h : pg_ok n s l C) : pg_tv C :=
  ⟨fun i hi => (h i hi).1, fun i y p hi hp => ⟨((h i hi).2.1 y p hp).1, ((h i hi).2.1 y p hp).2.1, pg_S_fix hs ((h i hi).2.1 y p hp).2.2⟩⟩
/-- the points that level i reaches -/
theorem pg_ok_sup {n : Nat} {s : Nat → pg_T} {l : Nat → Nat} {C : pg_C} {i : Nat} (h : pg_rowok n s l C i) (y : Nat) : C i y ≠ none ↔ ∃ g, pg_gen (pg_S n s l i) g ∧ pg_f g i = y := by
  have h6 : ∀ y, C i y ≠ none → y < 6 := by
    intro y hy
    cases e : C i y with
    | none => exact absurd e hy
    | some p => exact (h.2.1 y p e).1
  constructor
  · intro hy
    cases e : C i y with
    | none => exact absurd e hy
    | some p => exact ⟨p, (h.2.1 y p e).2.2, (h.2.1 y p e).2.1⟩
  · intro hg
    obtain ⟨g, hg, rfl⟩ := hg
    have key : (∀ y, C i y ≠ none → C i (pg_f g y) ≠ none) ∧ (∀ y, C i y ≠ none → C i (pg_g g y) ≠ none) := by
      refine pg_gen_le (S := pg_S n s l i) (H := fun g => (∀ y, C i y ≠ none → C i (pg_f g y) ≠ none) ∧ (∀ y, C i y ≠ none → C i (pg_g g y) ≠ none)) ⟨⟨fun _ h => h, fun _ h => h⟩, ?_, ?_⟩ ?_ hg
      · intro a b ha hb
        exact ⟨fun y hy => hb.1 _ (ha.1 y hy), fun y hy => ha.2 _ (hb.2 y hy)⟩
      · intro a ha
        exact ⟨ha.2, ha.1⟩
      · intro b hb
        obtain ⟨k, hk, hl, rfl⟩ := hb
        have cl : ∀ y, C i y ≠ none → C i (pg_f (s k) y) ≠ none := fun y hy => h.2.2 y k hk hl hy
        exact ⟨cl, fun y hy => pg_back' (fun y => C i y ≠ none) (s k) h6 cl hy⟩
    exact key.1 i (by rw [h.1]; simp)
theorem pg_in_gen {n : Nat} {s : Nat → pg_T} {l : Nat → Nat} {C : pg_C} (h : pg_ok n s l C) : ∀ (m i : Nat) (g : pg_T), m + i = 6 → pg_in C m i g → pg_gen (pg_S n s l i) g := by
  intro m
  induction m with
  | zero => intro i g _ e; rw [show g = pg_one from e]; exact (pg_gen_sub _).1
  | succ m ih =>
    intro i g hm hg
    obtain ⟨p, hp, hg⟩ := hg
    rw [← pg_can' g p]
    exact (pg_gen_sub _).2.1 _ _ (pg_S_le (by omega) (ih (i + 1) _ (by omega) hg)) (((h i (by omega)).2.1 _ p hp).2.2)
/-- all products of a carrier, a generator and the inverse of the carrier of where that leads vanish -/
def pg_closed (n : Nat) (s : Nat → pg_T) (l : Nat → Nat) (C : pg_C) : Prop :=
  ∀ i y k p q, i < 6 → k < n → i ≤ l k → C i y = some p → C i (pg_f (s k) y) = some q → pg_sf C 6 0 (pg_mul (pg_mul p (s k)) (pg_inv q)) = pg_one
theorem pg_sch {n : Nat} {s : Nat → pg_T} {l : Nat → Nat} {C : pg_C} (hs : pg_st n s l) (h : pg_ok n s l C) (hc : pg_closed n s l C) {m i y k : Nat} {p q : pg_T} (hm : m + (i + 1) = 6) (hk : k < n) (hl : i ≤ l k) (hp : C i y = some p) (hq : C i (pg_f (s k) y) = some q) :
    pg_in C m (i + 1) (pg_mul (pg_mul p (s k)) (pg_inv q)) := by
  have tv := pg_ok_tv hs h
  obtain ⟨_, p2, p3⟩ := tv.2 i y p (by omega) hp
  obtain ⟨_, q2, q3⟩ := tv.2 i _ q (by omega) hq
  have fx : pg_fix (i + 1) (pg_mul (pg_mul p (s k)) (pg_inv q)) := by
    refine pg_fix_s (pg_fix_mul (pg_fix_mul p3 (pg_fix_le hl (hs k hk))) (pg_fix_inv q3)) ?_
    rw [pg_f_mul, pg_f_mul, p2, ← q2, pg_f_inv, pg_gf]
  have e := hc i y k p q (by omega) hk hl hp hq
  rw [pg_sf_skip tv (i + 1) _ (by omega) fx, show 6 - (i + 1) = m by omega] at e
  exact (pg_sf_in tv m (i + 1) _ hm fx).mp e
theorem pg_main {n : Nat} {s : Nat → pg_T} {l : Nat → Nat} {C : pg_C} (hs : pg_st n s l) (h : pg_ok n s l C) (hc : pg_closed n s l C) : ∀ (m i : Nat) (g : pg_T), m + i = 6 → pg_gen (pg_S n s l i) g → pg_in C m i g := by
  have tv := pg_ok_tv hs h
  intro m
  induction m with
  | zero =>
    intro i g hm hg
    have := pg_S_fix hs hg
    rw [show i = 6 by omega] at this
    exact pg_fix6 this
  | succ m ih =>
    intro i g hm hg
    have hi : i < 6 := by omega
    have inv := pg_gen_sub (pg_S n s l (i + 1))
    have h6 : ∀ y, C i y ≠ none → y < 6 := by
      intro y hy
      cases e : C i y with
      | none => exact absurd e hy
      | some p => exact (tv.2 i y p hi e).1
    have one : pg_in C (m + 1) i pg_one := by
      refine ⟨pg_one, tv.1 i hi, ?_⟩
      rw [pg_mul_inv]
      exact ih (i + 1) _ (by omega) inv.1
    have key : ∀ a, pg_in C (m + 1) i a → pg_in C (m + 1) i (pg_mul a g) ∧ pg_in C (m + 1) i (pg_mul a (pg_inv g)) := by
      refine pg_gen_le (S := pg_S n s l i) (H := fun g => ∀ a, pg_in C (m + 1) i a → pg_in C (m + 1) i (pg_mul a g) ∧ pg_in C (m + 1) i (pg_mul a (pg_inv g))) ⟨?_, ?_, ?_⟩ ?_ hg
      · intro a ha
        rw [pg_inv_one, pg_mul_one]
        exact ⟨ha, ha⟩
      · intro b c hb hc' a ha
        rw [pg_inv_rev, ← pg_assoc, ← pg_assoc]
        exact ⟨(hc' _ (hb a ha).1).1, (hb _ (hc' a ha).2).2⟩
      · intro b hb a ha
        rw [pg_inv_inv]
        exact ⟨(hb a ha).2, (hb a ha).1⟩
      · intro b hb a ha
        obtain ⟨k, hk, hl, rfl⟩ := hb
        obtain ⟨p, hp, ha⟩ := ha
        have hb := pg_in_gen h m (i + 1) _ (by omega) ha
        have cl : ∀ y, C i y ≠ none → C i (pg_f (s k) y) ≠ none := fun y hy => (h i hi).2.2 y k hk hl hy
        have ny : C i (pg_f a i) ≠ none := by rw [hp]; simp
        constructor
        · cases e : C i (pg_f (s k) (pg_f a i)) with
          | none => exact absurd e (cl _ ny)
          | some q =>
            refine ⟨q, e, ih (i + 1) _ (by omega) ?_⟩
            have t := pg_in_gen h m (i + 1) _ (by omega) (pg_sch hs h hc (by omega) hk hl hp e)
            have e2 : pg_mul (pg_mul a (s k)) (pg_inv q) = pg_mul (pg_mul a (pg_inv p)) (pg_mul (pg_mul p (s k)) (pg_inv q)) := pg_ext (fun x _ => by
              show pg_g q (pg_f (s k) (pg_f a x)) = pg_g q (pg_f (s k) (pg_f p (pg_g p (pg_f a x))))
              rw [pg_fg])
            rw [e2]
            exact inv.2.1 _ _ hb t
        · cases e : C i (pg_g (s k) (pg_f a i)) with
          | none => exact absurd e (pg_back' (fun y => C i y ≠ none) (s k) h6 cl ny)
          | some q =>
            refine ⟨q, e, ih (i + 1) _ (by omega) ?_⟩
            have t := pg_in_gen h m (i + 1) _ (by omega) (pg_sch hs h hc (by omega) hk hl e (q := p) (by rw [pg_fg]; exact hp))
            have e2 : pg_mul (pg_mul a (pg_inv (s k))) (pg_inv q) = pg_mul (pg_mul a (pg_inv p)) (pg_inv (pg_mul (pg_mul q (s k)) (pg_inv p))) := pg_ext (fun x _ => by
              show pg_g q (pg_g (s k) (pg_f a x)) = pg_g q (pg_g (s k) (pg_f p (pg_g p (pg_f a x))))
              rw [pg_fg])
            rw [e2]
            exact inv.2.1 _ _ hb (inv.2.2 _ t)
    have := (key pg_one one).1
    rw [pg_one_mul] at this
    exact this
theorem pg_all {n : Nat} {s : Nat → pg_T} {l : Nat → Nat} {C : pg_C} (hs : pg_st n s l) (h : pg_ok n s l C) (hc : pg_closed n s l C) (g : pg_T) : pg_in C 6 0 g ↔ pg_gen (pg_S n s l 0) g :=
  ⟨pg_in_gen h 6 0 g rfl, pg_main hs h hc 6 0 g rfl⟩
end
section
/-! counting points -/
noncomputable def pg_cn (S : Nat → Prop) : Nat := ((List.range 6).filter (fun y => pg_d (S y))).length
theorem pg_cn_mem {S : Nat → Prop} {y : Nat} : y ∈ (List.range 6).filter (fun y => pg_d (S y)) ↔ y < 6 ∧ S y := by
  rw [List.mem_filter, List.mem_range, pg_d_iff]
theorem pg_cn_nd (S : Nat → Prop) : ((List.range 6).filter (fun y => pg_d (S y))).Nodup := pg_nd_fil _ List.nodup_range
theorem pg_cn_6 (S : Nat → Prop) : pg_cn S ≤ 6 := by
  have := List.length_filter_le (fun y => pg_d (S y)) (List.range 6)
  rw [List.length_range] at this
  exact this
theorem pg_cn_le {S S' : Nat → Prop} (h : ∀ y, y < 6 → S y → S' y) : pg_cn S ≤ pg_cn S' :=
  (pg_cn_nd S).length_le_of_subset (fun y hy => pg_cn_mem.mpr ⟨(pg_cn_mem.mp hy).1, h y (pg_cn_mem.mp hy).1 (pg_cn_mem.mp hy).2⟩)
theorem pg_cn_lt {S S' : Nat → Prop} (h : ∀ y, y < 6 → S y → S' y) {z : Nat} (hz : z < 6) (h0 : ¬ S z) (h1 : S' z) : pg_cn S < pg_cn S' := by
  have nd : (z :: (List.range 6).filter (fun y => pg_d (S y))).Nodup := List.nodup_cons.mpr ⟨fun t => h0 (pg_cn_mem.mp t).2, pg_cn_nd S⟩
  have := nd.length_le_of_subset (l₂ := (List.range 6).filter (fun y => pg_d (S' y))) (fun y hy => by
    rcases List.mem_cons.mp hy with e | e
    · rw [e]; exact pg_cn_mem.mpr ⟨hz, h1⟩
    · exact pg_cn_mem.mpr ⟨(pg_cn_mem.mp e).1, h y (pg_cn_mem.mp e).1 (pg_cn_mem.mp e).2⟩)
  rw [List.length_cons] at this
  exact this
/-- a set that grows, or is closed, at each of 6 rounds is closed -/
theorem pg_cn_pos {S : Nat → Prop} {z : Nat} (hz : z < 6) (h : S z) : 1 ≤ pg_cn S :=
  List.length_pos_of_mem (pg_cn_mem.mpr ⟨hz, h⟩)
/-! the carriers of a level -/
def pg_row (C : pg_C) (i : Nat) : List pg_T := (List.range 6).filterMap (C i)
theorem pg_row_mem {C : pg_C} {i : Nat} {p : pg_T} : p ∈ pg_row C i ↔ ∃ y, y < 6 ∧ C i y = some p := by
  unfold pg_row
  rw [List.mem_filterMap]
  constructor
  · intro h
    obtain ⟨y, hy, e⟩ := h
    exact ⟨y, List.mem_range.mp hy, e⟩
  · intro h
    obtain ⟨y, hy, e⟩ := h
    exact ⟨y, List.mem_range.mpr hy, e⟩
theorem pg_row_nd {C : pg_C} (tv : pg_tv C) {i : Nat} (hi : i < 6) : (pg_row C i).Nodup := by
  unfold pg_row
  refine List.pairwise_filterMap.mpr (List.Pairwise.imp (fun {a b} hn p hp q hq e => hn ?_) (List.nodup_range (n := 6)))
  rw [← (tv.2 i a p hi hp).2.1, ← (tv.2 i b q hi hq).2.1, e]
theorem pg_row_at {C : pg_C} (tv : pg_tv C) {i : Nat} (hi : i < 6) {p : pg_T} (h : p ∈ pg_row C i) : C i (pg_f p i) = some p := by
  obtain ⟨y, _, e⟩ := pg_row_mem.mp h
  rw [(tv.2 i y p hi e).2.1]
  exact e
theorem pg_fm_len (f : Nat → Option pg_T) : ∀ l : List Nat, (l.filterMap f).length = (l.filter (fun y => pg_d (f y ≠ none))).length := by
  intro l
  induction l with
  | nil => rfl
  | cons a l ih =>
    cases e : f a with
    | none => rw [List.filterMap_cons_none e, List.filter_cons_of_neg (by rw [pg_d_iff]; exact fun z => z e), ih]
    | some p => rw [List.filterMap_cons_some e, List.filter_cons_of_pos (by rw [pg_d_iff, e]; simp), List.length_cons, List.length_cons, ih]
theorem pg_row_cn (C : pg_C) (i : Nat) : (pg_row C i).length = pg_cn (fun y => C i y ≠ none) := pg_fm_len (C i) (List.range 6)
theorem pg_row_pos {C : pg_C} (tv : pg_tv C) {i : Nat} (hi : i < 6) : 1 ≤ (pg_row C i).length :=
  List.length_pos_of_mem (pg_row_mem.mpr ⟨i, hi, tv.1 i hi⟩)
theorem pg_row_le {C : pg_C} (tv : pg_tv C) {i : Nat} (hi : i < 6) : (pg_row C i).length ≤ 6 - i := by
  have nd : ((pg_row C i).map (fun p => pg_f p i)).Nodup := pg_nd_map _ (fun a b ha hb e => by
    have h1 := pg_row_at tv hi ha
    have h2 := pg_row_at tv hi hb
    rw [e, h2] at h1
    exact (Option.some.inj h1).symm) (pg_row_nd tv hi)
  have := nd.length_le_of_subset (l₂ := List.range' i (6 - i)) (fun y hy => by
    obtain ⟨p, hp, rfl⟩ := List.mem_map.mp hy
    have h1 := tv.2 i _ p hi (pg_row_at tv hi hp)
    rw [List.mem_range'_1]
    refine ⟨?_, by omega⟩
    rcases Nat.lt_or_ge (pg_f p i) i with z | z
    · have := pg_inj p (h1.2.2 _ z)
      omega
    · exact z)
  rw [List.length_map, List.length_range'] at this
  exact this
def pg_tot (C : pg_C) : Nat := (pg_row C 0).length + (pg_row C 1).length + (pg_row C 2).length + (pg_row C 3).length + (pg_row C 4).length + (pg_row C 5).length
theorem pg_tot_le {C : pg_C} (tv : pg_tv C) : pg_tot C ≤ 21 := by
  have h0 := pg_row_le tv (i := 0) (by omega)
  have h1 := pg_row_le tv (i := 1) (by omega)
  have h2 := pg_row_le tv (i := 2) (by omega)
  have h3 := pg_row_le tv (i := 3) (by omega)
  have h4 := pg_row_le tv (i := 4) (by omega)
  have h5 := pg_row_le tv (i := 5) (by omega)
  unfold pg_tot
  omega
theorem pg_tot_ge {C : pg_C} (tv : pg_tv C) : 6 ≤ pg_tot C := by
  have h0 := pg_row_pos tv (i := 0) (by omega)
  have h1 := pg_row_pos tv (i := 1) (by omega)
  have h2 := pg_row_pos tv (i := 2) (by omega)
  have h3 := pg_row_pos tv (i := 3) (by omega)
  have h4 := pg_row_pos tv (i := 4) (by omega)
  have h5 := pg_row_pos tv (i := 5) (by omega)
  unfold pg_tot
  omega
theorem pg_tot_lt {C C' : pg_C} (h : ∀ i, i < 6 → (pg_row C i).length ≤ (pg_row C' i).length) {j : Nat} (hj : j < 6) (hl : (pg_row C j).length < (pg_row C' j).length) : pg_tot C < pg_tot C' := by
  have h0 := h 0 (by omega)
  have h1 := h 1 (by omega)
  have h2 := h 2 (by omega)
  have h3 := h 3 (by omega)
  have h4 := h 4 (by omega)
  have h5 := h 5 (by omega)
  unfold pg_tot
  have c : j = 0 ∨ j = 1 ∨ j = 2 ∨ j = 3 ∨ j = 4 ∨ j = 5 := by omega
  rcases c with e | e | e | e | e | e <;> subst e <;> omega
/-! the elements of a chain -/
def pg_els (C : pg_C) : Nat → Nat → List pg_T
  | 0, _ => [pg_one]
  | n + 1, i => (pg_row C i).flatMap (fun p => (pg_els C n (i + 1)).map (fun b => pg_mul b p))
def pg_pr (C : pg_C) : Nat → Nat → Nat
  | 0, _ => 1
  | n + 1, i => (pg_row C i).length * pg_pr C n (i + 1)
theorem pg_els_mem {C : pg_C} (tv : pg_tv C) : ∀ (n i : Nat) (a : pg_T), n + i = 6 → (a ∈ pg_els C n i ↔ pg_in C n i a) := by
  intro n
  induction n with
  | zero => intro i a _; exact List.mem_singleton
  | succ n ih =>
    intro i a hn
    have hi : i < 6 := by omega
    rw [pg_els, List.mem_flatMap]
    constructor
    · intro h
      obtain ⟨p, hp, h⟩ := h
      obtain ⟨b, hb, rfl⟩ := List.mem_map.mp h
      have hb' := (ih (i + 1) b (by omega)).mp hb
      have fx := pg_in_fix tv n (i + 1) b (by omega) hb'
      refine ⟨p, ?_, ?_⟩
      · rw [pg_f_mul, fx i (by omega)]
        exact pg_row_at tv hi hp
      · rw [pg_can]
        exact hb'
    · intro h
      obtain ⟨p, hp, h⟩ := h
      exact ⟨p, pg_row_mem.mpr ⟨_, (tv.2 i _ p hi hp).1, hp⟩, List.mem_map.mpr ⟨_, (ih (i + 1) _ (by omega)).mpr h, pg_can' a p⟩⟩
theorem pg_els_nd {C : pg_C} (tv : pg_tv C) : ∀ (n i : Nat), n + i = 6 → (pg_els C n i).Nodup := by
  intro n
  induction n with
  | zero => intro i _; exact List.pairwise_singleton _ _
  | succ n ih =>
    intro i hn
    have hi : i < 6 := by omega
    rw [pg_els]
    refine List.pairwise_flatMap.mpr ⟨fun p _ => pg_nd_map _ (fun a b _ _ e => pg_mul_inj e) (ih (i + 1) (by omega)), ?_⟩
    refine List.Pairwise.imp_of_mem (fun {p q} hp hq hn2 x hx y hy e => hn2 ?_) (pg_row_nd tv hi)
    obtain ⟨b, hb, rfl⟩ := List.mem_map.mp hx
    obtain ⟨c, hc, rfl⟩ := List.mem_map.mp hy
    have fb := pg_in_fix tv n (i + 1) b (by omega) ((pg_els_mem tv n (i + 1) b (by omega)).mp hb)
    have fc := pg_in_fix tv n (i + 1) c (by omega) ((pg_els_mem tv n (i + 1) c (by omega)).mp hc)
    have e2 : pg_f p i = pg_f q i := by
      have := congrArg (fun g => pg_f g i) e
      rw [pg_f_mul, pg_f_mul, fb i (by omega), fc i (by omega)] at this
      exact this
    have h1 := pg_row_at tv hi hp
    rw [e2, pg_row_at tv hi hq] at h1
    exact (Option.some.inj h1).symm
theorem pg_len_fm {α β : Type} (f : α → List β) (c : Nat) (h : ∀ a, (f a).length = c) : ∀ l : List α, (l.flatMap f).length = l.length * c := by
  intro l
  induction l with
  | nil => rw [List.flatMap_nil, List.length_nil, List.length_nil, Nat.zero_mul]
  | cons a l ih => rw [List.flatMap_cons, List.length_append, ih, h, List.length_cons, Nat.succ_mul, Nat.add_comm]
theorem pg_els_len (C : pg_C) : ∀ (n i : Nat), (pg_els C n i).length = pg_pr C n i := by
  intro n
  induction n with
  | zero => intro i; rfl
  | succ n ih =>
    intro i
    rw [pg_els, pg_pr, pg_len_fm _ (pg_pr C n (i + 1)) (fun p => by rw [List.length_map, ih])]
def pg_fa : Nat → Nat
  | 0 => 1
  | n + 1 => (n + 1) * pg_fa n
theorem pg_pr_le {C : pg_C} (tv : pg_tv C) : ∀ (n i : Nat), n + i = 6 → pg_pr C n i ≤ pg_fa n := by
  intro n
  induction n with
  | zero => intro i _; exact Nat.le_refl _
  | succ n ih =>
    intro i hn
    rw [pg_pr, pg_fa]
    have := pg_row_le tv (i := i) (by omega)
    exact Nat.mul_le_mul (by omega) (ih (i + 1) (by omega))
theorem pg_pr_720 {C : pg_C} (tv : pg_tv C) : pg_pr C 6 0 ≤ 720 := pg_pr_le tv 6 0 rfl
theorem pg_in_hc {C : pg_C} (tv : pg_tv C) : pg_hc (pg_in C 6 0) (pg_pr C 6 0) :=
  ⟨pg_els C 6 0, pg_els_nd tv 6 0 rfl, fun a => pg_els_mem tv 6 0 a rfl, pg_els_len C 6 0⟩
/-! the n-th element -/
def pg_el (C : pg_C) : Nat → Nat → Nat → pg_T
  | 0, _, _ => pg_one
  | n + 1, i, k => pg_mul (pg_el C n (i + 1) (k / (pg_row C i).length)) ((pg_row C i)[k % (pg_row C i).length]?.getD pg_one)
theorem pg_nth {C : pg_C} (tv : pg_tv C) {i : Nat} (hi : i < 6) (k : Nat) : ∃ p, (pg_row C i)[k % (pg_row C i).length]? = some p ∧ p ∈ pg_row C i := by
  have h := Nat.mod_lt k (pg_row_pos tv hi)
  exact ⟨_, List.getElem?_eq_getElem h, List.getElem_mem h⟩
theorem pg_el_in {C : pg_C} (tv : pg_tv C) : ∀ (n i k : Nat), n + i = 6 → pg_in C n i (pg_el C n i k) := by
  intro n
  induction n with
  | zero => intro i k _; rfl
  | succ n ih =>
    intro i k hn
    obtain ⟨p, e, hp⟩ := pg_nth tv (i := i) (by omega) k
    rw [pg_el, e, Option.getD_some]
    have := ih (i + 1) (k / (pg_row C i).length) (by omega)
    refine (pg_els_mem tv (n + 1) i _ hn).mp ?_
    rw [pg_els, List.mem_flatMap]
    exact ⟨p, hp, List.mem_map.mpr ⟨_, (pg_els_mem tv n (i + 1) _ (by omega)).mpr this, rfl⟩⟩
theorem pg_el_surj {C : pg_C} (tv : pg_tv C) : ∀ (n i : Nat) (a : pg_T), n + i = 6 → a ∈ pg_els C n i → ∃ k, k < pg_pr C n i ∧ pg_el C n i k = a := by
  intro n
  induction n with
  | zero =>
    intro i a _ h
    exact ⟨0, Nat.lt_succ_self 0, (List.mem_singleton.mp h).symm⟩
  | succ n ih =>
    intro i a hn h
    rw [pg_els, List.mem_flatMap] at h
    obtain ⟨p, hp, h⟩ := h
    obtain ⟨b, hb, rfl⟩ := List.mem_map.mp h
    obtain ⟨k, hk, hb⟩ := ih (i + 1) b (by omega) hb
    obtain ⟨w, hw, e⟩ := List.mem_iff_getElem.mp hp
    have hpos : 0 < (pg_row C i).length := by omega
    have e1 : (w + k * (pg_row C i).length) / (pg_row C i).length = k := by
      rw [Nat.add_mul_div_right _ _ hpos, Nat.div_eq_of_lt hw, Nat.zero_add]
    have e2 : (w + k * (pg_row C i).length) % (pg_row C i).length = w := by
      rw [Nat.add_mul_mod_self_right, Nat.mod_eq_of_lt hw]
    refine ⟨w + k * (pg_row C i).length, ?_, ?_⟩
    · rw [pg_pr]
      have : (k + 1) * (pg_row C i).length ≤ pg_pr C n (i + 1) * (pg_row C i).length := Nat.mul_le_mul_right _ hk
      rw [Nat.succ_mul] at this
      rw [Nat.mul_comm (pg_pr C n (i + 1))] at this
      omega
    · rw [pg_el, e1, e2, hb, List.getElem?_eq_getElem hw, e, Option.getD_some]
/-! what a search finds, and what it costs -/
def pg_tl (k : Nat → Nat) : Nat → Nat → Nat
  | 0, _ => 0
  | m + 1, t => k t + pg_tl k m (t + 1)
def pg_kid (C : pg_C) (gd : Nat → pg_T → Bool) (F : pg_T → Nat) (i : Nat) (h : pg_T) (y : Nat) : Nat := match C i y with
  | none => 0
  | some p => if gd i (pg_mul p h) = true then F (pg_mul p h) else 0
theorem pg_kid_none {C : pg_C} {gd : Nat → pg_T → Bool} {F : pg_T → Nat} {i : Nat} {h : pg_T} {y : Nat} (e : C i y = none) : pg_kid C gd F i h y = 0 := by
  rw [pg_kid, e]
theorem pg_kid_t {C : pg_C} {gd : Nat → pg_T → Bool} {F : pg_T → Nat} {i : Nat} {h p : pg_T} {y : Nat} (e : C i y = some p) (g : gd i (pg_mul p h) = true) : pg_kid C gd F i h y = F (pg_mul p h) := by
  rw [pg_kid, e]
  exact if_pos g
theorem pg_kid_f {C : pg_C} {gd : Nat → pg_T → Bool} {F : pg_T → Nat} {i : Nat} {h p : pg_T} {y : Nat} (e : C i y = some p) (g : ¬ gd i (pg_mul p h) = true) : pg_kid C gd F i h y = 0 := by
  rw [pg_kid, e]
  exact if_neg g
def pg_leaf (C : pg_C) (gd : Nat → pg_T → Bool) : Nat → Nat → pg_T → Nat
  | 0, _, _ => 1
  | n + 1, i, h => pg_tl (pg_kid C gd (pg_leaf C gd n (i + 1)) i h) 6 0
def pg_cost (C : pg_C) (gd : Nat → pg_T → Bool) : Nat → Nat → pg_T → Nat
  | 0, _, _ => 1
  | n + 1, i, h => 7 + pg_tl (pg_kid C gd (pg_cost C gd n (i + 1)) i h) 6 0
def pg_K : Nat → Nat
  | 0 => 1
  | n + 1 => 7 + (n + 1) * pg_K n
theorem pg_tl_le (C : pg_C) (gd : Nat → pg_T → Bool) (F : pg_T → Nat) (i : Nat) (h : pg_T) (K : Nat) (hF : ∀ h, F h ≤ K) : ∀ m t, pg_tl (pg_kid C gd F i h) m t ≤ ((List.range' t m).filterMap (C i)).length * K := by
  intro m
  induction m with
  | zero => intro t; exact Nat.zero_le _
  | succ m ih =>
    intro t
    rw [pg_tl, List.range'_succ]
    have := ih (t + 1)
    cases e : C i t with
    | none =>
      rw [List.filterMap_cons_none e, pg_kid_none e, Nat.zero_add]
      exact this
    | some p =>
      rw [List.filterMap_cons_some e, List.length_cons, Nat.succ_mul]
      have h1 : pg_kid C gd F i h t ≤ K := by
        by_cases g : gd i (pg_mul p h) = true
        · rw [pg_kid_t e g]; exact hF _
        · rw [pg_kid_f e g]; exact Nat.zero_le _
      omega
theorem pg_cost_le {C : pg_C} (tv : pg_tv C) (gd : Nat → pg_T → Bool) : ∀ (n i : Nat) (h : pg_T), n + i = 6 → pg_cost C gd n i h ≤ pg_K n := by
  intro n
  induction n with
  | zero => intro i h _; exact Nat.le_refl _
  | succ n ih =>
    intro i h hn
    rw [pg_cost, pg_K]
    have h1 := pg_tl_le C gd (pg_cost C gd n (i + 1)) i h (pg_K n) (fun h => ih (i + 1) h (by omega)) 6 0
    have h2 := pg_row_le tv (i := i) (by omega)
    rw [pg_row, List.range_eq_range'] at h2
    have h3 : ((List.range' 0 6).filterMap (C i)).length * pg_K n ≤ (n + 1) * pg_K n := Nat.mul_le_mul_right _ (by omega)
    omega
theorem pg_leaf_row {C : pg_C} (tv : pg_tv C) {gd : Nat → pg_T → Bool} (hgd : ∀ j h h', (∀ x, x ≤ j → pg_f h x = pg_f h' x) → gd j h = gd j h') {n i : Nat} (h : pg_T) (hn : n + 1 + i = 6)
    (ih : ∀ h, pg_leaf C gd n (i + 1) h = ((pg_els C n (i + 1)).filter (fun b => pg_d (∀ j, i + 1 ≤ j → j < 6 → gd j (pg_mul b h) = true))).length) :
    ∀ m t, pg_tl (pg_kid C gd (pg_leaf C gd n (i + 1)) i h) m t = ((((List.range' t m).filterMap (C i)).flatMap (fun p => (pg_els C n (i + 1)).map (fun b => pg_mul b p))).filter (fun b => pg_d (∀ j, i ≤ j → j < 6 → gd j (pg_mul b h) = true))).length := by
  intro m
  induction m with
  | zero => intro t; rfl
  | succ m ihm =>
    intro t
    rw [pg_tl, List.range'_succ, ihm (t + 1)]
    cases e : C i t with
    | none => rw [List.filterMap_cons_none e, pg_kid_none e, Nat.zero_add]
    | some p =>
      rw [List.filterMap_cons_some e, List.flatMap_cons, List.filter_append, List.length_append]
      congr 1
      rw [List.filter_map, List.length_map]
      have same : ∀ b, b ∈ pg_els C n (i + 1) → gd i (pg_mul (pg_mul b p) h) = gd i (pg_mul p h) := by
        intro b hb
        have fx := pg_in_fix tv n (i + 1) b (by omega) ((pg_els_mem tv n (i + 1) b (by omega)).mp hb)
        refine hgd i _ _ (fun x hx => ?_)
        rw [pg_f_mul, pg_f_mul, pg_f_mul, fx x (by omega)]
      by_cases g : gd i (pg_mul p h) = true
      · rw [pg_kid_t e g, ih]
        congr 1
        apply List.filter_congr
        intro b hb
        show pg_d _ = pg_d _
        have : (∀ j, i + 1 ≤ j → j < 6 → gd j (pg_mul b (pg_mul p h)) = true) ↔ (∀ j, i ≤ j → j < 6 → gd j (pg_mul (pg_mul b p) h) = true) := by
          rw [pg_assoc]
          constructor
          · intro H j h1 h2
            by_cases ej : j = i
            · rw [ej, ← pg_assoc, same b hb, g]
            · exact H j (by omega) h2
          · intro H j h1 h2
            exact H j (by omega) h2
        rw [propext this]
      · rw [pg_kid_f e g]
        symm
        rw [List.length_eq_zero_iff, List.filter_eq_nil_iff]
        intro b hb
        show ¬ (pg_d _ = true)
        rw [pg_d_iff]
        intro H
        apply g
        rw [← same b hb]
        exact H i (Nat.le_refl i) (by omega)
theorem pg_leaf_eq {C : pg_C} (tv : pg_tv C) {gd : Nat → pg_T → Bool} (hgd : ∀ j h h', (∀ x, x ≤ j → pg_f h x = pg_f h' x) → gd j h = gd j h') : ∀ (n i : Nat) (h : pg_T), n + i = 6 → pg_leaf C gd n i h = ((pg_els C n i).filter (fun b => pg_d (∀ j, i ≤ j → j < 6 → gd j (pg_mul b h) = true))).length := by
  intro n
  induction n with
  | zero =>
    intro i h hn
    rw [pg_leaf, pg_els, List.filter_cons_of_pos (by rw [pg_d_iff]; exact fun j h1 h2 => absurd h1 (by omega))]
    rfl
  | succ n ih =>
    intro i h hn
    rw [pg_leaf, pg_els, pg_row, List.range_eq_range']
    exact pg_leaf_row tv hgd h hn (fun h => ih (i + 1) h (by omega)) 6 0
/-- a search from the top finds the elements that are good at every level -/
theorem pg_leaf_hc {C : pg_C} (tv : pg_tv C) {gd : Nat → pg_T → Bool} (hgd : ∀ j h h', (∀ x, x ≤ j → pg_f h x = pg_f h' x) → gd j h = gd j h') :
    pg_hc (fun a => pg_in C 6 0 a ∧ ∀ j, j < 6 → gd j a = true) (pg_leaf C gd 6 0 pg_one) := by
  refine ⟨_, pg_nd_fil _ (pg_els_nd tv 6 0 rfl), fun a => ?_, (pg_leaf_eq tv hgd 6 0 pg_one rfl).symm⟩
  rw [List.mem_filter, pg_d_iff, pg_els_mem tv 6 0 a rfl, pg_mul_one]
  exact ⟨fun h => ⟨h.1, fun j hj => h.2 j (Nat.zero_le j) hj⟩, fun h => ⟨h.1, fun j _ hj => h.2 j hj⟩⟩
theorem pg_leaf_le {C : pg_C} (tv : pg_tv C) {gd : Nat → pg_T → Bool} (hgd : ∀ j h h', (∀ x, x ≤ j → pg_f h x = pg_f h' x) → gd j h = gd j h') : pg_leaf C gd 6 0 pg_one ≤ 720 :=
  Nat.le_trans (pg_hc_le (pg_leaf_hc tv hgd) (pg_in_hc tv) (fun _ h => h.1)) (pg_pr_720 tv)
end
section
/-! codes of permutations: three binary digits a point inside, base six outside -/
def pc_code (h : Nat → Nat) : Nat := h 0 + 8 * h 1 + 64 * h 2 + 512 * h 3 + 4096 * h 4 + 32768 * h 5
def pc_out (h : Nat → Nat) : Nat := h 0 + 6 * h 1 + 36 * h 2 + 216 * h 3 + 1296 * h 4 + 7776 * h 5
def pc_cd (p : pg_T) : Int32 := nI (pc_code (pg_f p))
def pc_oc (p : pg_T) : Int32 := nI (pc_out (pg_f p))
theorem pc_6 {i : Nat} (h : i < 6) : i = 0 ∨ i = 1 ∨ i = 2 ∨ i = 3 ∨ i = 4 ∨ i = 5 := by omega
theorem pc_lt {h : Nat → Nat} (hh : ∀ x, x < 6 → h x < 8) : pc_code h < 262144 := by
  have h0 := hh 0 (by omega)
  have h1 := hh 1 (by omega)
  have h2 := hh 2 (by omega)
  have h3 := hh 3 (by omega)
  have h4 := hh 4 (by omega)
  have h5 := hh 5 (by omega)
  unfold pc_code
  omega
theorem pc_olt (p : pg_T) : pc_out (pg_f p) < 46656 := by
  have h0 := pg_lt p (x := 0) (by omega)
  have h1 := pg_lt p (x := 1) (by omega)
  have h2 := pg_lt p (x := 2) (by omega)
  have h3 := pg_lt p (x := 3) (by omega)
  have h4 := pg_lt p (x := 4) (by omega)
  have h5 := pg_lt p (x := 5) (by omega)
  unfold pc_out
  omega
theorem pc_8 (p : pg_T) : ∀ x, x < 6 → pg_f p x < 8 := fun x hx => by
  have := pg_lt p hx
  omega
theorem pc_congr {h k : Nat → Nat} (e : ∀ y, y < 6 → h y = k y) : pc_code h = pc_code k := by
  unfold pc_code
  rw [e 0 (by omega), e 1 (by omega), e 2 (by omega), e 3 (by omega), e 4 (by omega), e 5 (by omega)]
theorem pc_dN {h : Nat → Nat} (hh : ∀ x, x < 6 → h x < 8) {i : Nat} (hi : i < 6) : pc_code h / 2 ^ (3 * i) % 2 ^ 3 = h i := by
  have h0 := hh 0 (by omega)
  have h1 := hh 1 (by omega)
  have h2 := hh 2 (by omega)
  have h3 := hh 3 (by omega)
  have h4 := hh 4 (by omega)
  have h5 := hh 5 (by omega)
  rcases pc_6 hi with e | e | e | e | e | e <;> subst e <;> unfold pc_code
  · show _ / 1 % 8 = h 0
    omega
  · show _ / 8 % 8 = h 1
    omega
  · show _ / 64 % 8 = h 2
    omega
  · show _ / 512 % 8 = h 3
    omega
  · show _ / 4096 % 8 = h 4
    omega
  · show _ / 32768 % 8 = h 5
    omega
theorem pc_oN (p : pg_T) {i : Nat} (hi : i < 6) : pc_out (pg_f p) / 6 ^ i % 6 = pg_f p i := by
  have h0 := pg_lt p (x := 0) (by omega)
  have h1 := pg_lt p (x := 1) (by omega)
  have h2 := pg_lt p (x := 2) (by omega)
  have h3 := pg_lt p (x := 3) (by omega)
  have h4 := pg_lt p (x := 4) (by omega)
  have h5 := pg_lt p (x := 5) (by omega)
  rcases pc_6 hi with e | e | e | e | e | e <;> subst e <;> unfold pc_out
  · show _ / 1 % 6 = pg_f p 0
    omega
  · show _ / 6 % 6 = pg_f p 1
    omega
  · show _ / 36 % 6 = pg_f p 2
    omega
  · show _ / 216 % 6 = pg_f p 3
    omega
  · show _ / 1296 % 6 = pg_f p 4
    omega
  · show _ / 7776 % 6 = pg_f p 5
    omega
theorem pc_cnt : ∀ i, i < 6 → ((nI (3 * i) &&& 31).toBitVec.smod 32).toNat = 3 * i := by decide
theorem pc_c1 : ∀ i, i < 6 → ((nI i &&& 31).toBitVec.smod 32).toNat = i := by decide
theorem pc_3 (i : Nat) : (3 : Int32) * nI i = nI (3 * i) := pk_mul 3 i
theorem pc_dig' {h : Nat → Nat} (hh : ∀ x, x < 6 → h x < 8) {i : Nat} (hi : i < 6) : (nI (pc_code h) >>> (nI (3 * i) &&& 31)) &&& 7 = nI (h i) := by
  have hl := pc_lt hh
  have hd := Nat.div_le_self (pc_code h) (2 ^ (3 * i))
  rw [pk_shrN (by omega) _ (3 * i) (pc_cnt i hi), pk_andN (by omega) 3 (by decide), pc_dN hh hi]
theorem pc_dig {h : Nat → Nat} (hh : ∀ x, x < 6 → h x < 8) {i : Nat} (hi : i < 6) : (nI (pc_code h) >>> ((3 * nI i) &&& 31)) &&& 7 = nI (h i) := by
  rw [pc_3, pc_dig' hh hi]
theorem pc_or (a b : Nat) : nI a ||| nI b = nI (a ||| b) := by
  apply Int32.toBitVec_inj.1
  show BitVec.ofNat 32 a ||| BitVec.ofNat 32 b = BitVec.ofNat 32 (a ||| b)
  apply BitVec.eq_of_getLsbD_eq
  intro i hi
  simp [hi]
theorem pc_orN {lo hi d : Nat} (k : Nat) (h1 : lo < 2 ^ k) (h2 : d < 8) : (lo + 2 ^ (k + 3) * hi) ||| (d * 2 ^ k) = lo + d * 2 ^ k + 2 ^ (k + 3) * hi := by
  have e : 2 ^ (k + 3) = 2 ^ k * 8 := Nat.pow_add 2 k 3
  have hd : 2 ^ k * d ≤ 2 ^ k * 7 := Nat.mul_le_mul_left _ (by omega)
  have hA : lo < 2 ^ (k + 3) := by omega
  have hB : 2 ^ k * d + lo < 2 ^ (k + 3) := by omega
  rw [Nat.add_comm lo, Nat.two_pow_add_eq_or_of_lt hA, Nat.or_assoc, Nat.or_comm lo, Nat.mul_comm d, ← Nat.two_pow_add_eq_or_of_lt h1, ← Nat.two_pow_add_eq_or_of_lt hB]
  omega
theorem pc_put {h : Nat → Nat} (hh : ∀ x, x < 6 → h x < 8) {j d : Nat} (hj : j < 6) (hd : d < 8) (hz : h j = 0) : pc_code h ||| (d * 2 ^ (3 * j)) = pc_code (fun y => if y = j then d else h y) := by
  have h0 := hh 0 (by omega)
  have h1 := hh 1 (by omega)
  have h2 := hh 2 (by omega)
  have h3 := hh 3 (by omega)
  have h4 := hh 4 (by omega)
  have h5 := hh 5 (by omega)
  rcases pc_6 hj with e | e | e | e | e | e <;> subst e
  · have e1 : pc_code h = (0) + 2 ^ (3 * 0 + 3) * (1 * h 1 + 8 * h 2 + 64 * h 3 + 512 * h 4 + 4096 * h 5) := by
      show _ = (0) + 8 * (1 * h 1 + 8 * h 2 + 64 * h 3 + 512 * h 4 + 4096 * h 5)
      unfold pc_code
      omega
    rw [e1, pc_orN (3 * 0) (show _ < 1 by omega) hd]
    show (0) + d * 1 + 8 * (1 * h 1 + 8 * h 2 + 64 * h 3 + 512 * h 4 + 4096 * h 5) = d + 8 * h 1 + 64 * h 2 + 512 * h 3 + 4096 * h 4 + 32768 * h 5
    omega
  · have e1 : pc_code h = (1 * h 0) + 2 ^ (3 * 1 + 3) * (1 * h 2 + 8 * h 3 + 64 * h 4 + 512 * h 5) := by
      show _ = (1 * h 0) + 64 * (1 * h 2 + 8 * h 3 + 64 * h 4 + 512 * h 5)
      unfold pc_code
      omega
    rw [e1, pc_orN (3 * 1) (show _ < 8 by omega) hd]
    show (1 * h 0) + d * 8 + 64 * (1 * h 2 + 8 * h 3 + 64 * h 4 + 512 * h 5) = h 0 + 8 * d + 64 * h 2 + 512 * h 3 + 4096 * h 4 + 32768 * h 5
    omega
  · have e1 : pc_code h = (1 * h 0 + 8 * h 1) + 2 ^ (3 * 2 + 3) * (1 * h 3 + 8 * h 4 + 64 * h 5) := by
      show _ = (1 * h 0 + 8 * h 1) + 512 * (1 * h 3 + 8 * h 4 + 64 * h 5)
      unfold pc_code
      omega
    rw [e1, pc_orN (3 * 2) (show _ < 64 by omega) hd]
    show (1 * h 0 + 8 * h 1) + d * 64 + 512 * (1 * h 3 + 8 * h 4 + 64 * h 5) = h 0 + 8 * h 1 + 64 * d + 512 * h 3 + 4096 * h 4 + 32768 * h 5
    omega
  · have e1 : pc_code h = (1 * h 0 + 8 * h 1 + 64 * h 2) + 2 ^ (3 * 3 + 3) * (1 * h 4 + 8 * h 5) := by
      show _ = (1 * h 0 + 8 * h 1 + 64 * h 2) + 4096 * (1 * h 4 + 8 * h 5)
      unfold pc_code
      omega
    rw [e1, pc_orN (3 * 3) (show _ < 512 by omega) hd]
    show (1 * h 0 + 8 * h 1 + 64 * h 2) + d * 512 + 4096 * (1 * h 4 + 8 * h 5) = h 0 + 8 * h 1 + 64 * h 2 + 512 * d + 4096 * h 4 + 32768 * h 5
    omega
  · have e1 : pc_code h = (1 * h 0 + 8 * h 1 + 64 * h 2 + 512 * h 3) + 2 ^ (3 * 4 + 3) * (1 * h 5) := by
      show _ = (1 * h 0 + 8 * h 1 + 64 * h 2 + 512 * h 3) + 32768 * (1 * h 5)
      unfold pc_code
      omega
    rw [e1, pc_orN (3 * 4) (show _ < 4096 by omega) hd]
    show (1 * h 0 + 8 * h 1 + 64 * h 2 + 512 * h 3) + d * 4096 + 32768 * (1 * h 5) = h 0 + 8 * h 1 + 64 * h 2 + 512 * h 3 + 4096 * d + 32768 * h 5
    omega
  · have e1 : pc_code h = (1 * h 0 + 8 * h 1 + 64 * h 2 + 512 * h 3 + 4096 * h 4) + 2 ^ (3 * 5 + 3) * (0) := by
      show _ = (1 * h 0 + 8 * h 1 + 64 * h 2 + 512 * h 3 + 4096 * h 4) + 262144 * (0)
      unfold pc_code
      omega
    rw [e1, pc_orN (3 * 5) (show _ < 32768 by omega) hd]
    show (1 * h 0 + 8 * h 1 + 64 * h 2 + 512 * h 3 + 4096 * h 4) + d * 32768 + 262144 * (0) = h 0 + 8 * h 1 + 64 * h 2 + 512 * h 3 + 4096 * h 4 + 32768 * d
    omega
theorem pc_next {F : Nat → Nat} (hF : ∀ x, x < 6 → F x < 8) {i : Nat} (hi : i < 6) : nI (pc_code (fun y => if y < i then F y else 0)) ||| (nI (F i) <<< (nI (3 * i) &&& 31)) = nI (pc_code (fun y => if y < i + 1 then F y else 0)) := by
  have hFi := hF i hi
  have hb : F i * 2 ^ (3 * i) < 2 ^ 32 := by
    have h1 : (2 : Nat) ^ (3 * i) ≤ 2 ^ 15 := Nat.pow_le_pow_right (by omega) (by omega)
    have h2 : F i * 2 ^ (3 * i) ≤ 7 * 2 ^ 15 := Nat.mul_le_mul (by omega) h1
    omega
  rw [pk_shlN _ (3 * i) (pc_cnt i hi) hb, pc_or, pc_put (h := fun y => if y < i then F y else 0) (fun x hx => by
    split
    · exact hF x hx
    · omega) hi hFi (by rw [if_neg (by omega)])]
  apply congrArg nI
  apply pc_congr
  intro y hy
  by_cases e : y = i
  · rw [if_pos e, if_pos (by omega), e]
  · rw [if_neg e]
    by_cases g : y < i
    · rw [if_pos g, if_pos (by omega)]
    · rw [if_neg g, if_neg (by omega)]
theorem pc_start (F : Nat → Nat) : nI (pc_code (fun y => if y < 0 then F y else 0)) = 0 := by
  have : pc_code (fun y => if y < 0 then F y else 0) = 0 := by
    unfold pc_code
    simp
  rw [this, nI_0]
theorem pc_end (F : Nat → Nat) : pc_code (fun y => if y < 6 then F y else 0) = pc_code F :=
  pc_congr (fun y hy => if_pos hy)
theorem pc_cd_lt (p : pg_T) : pc_code (pg_f p) < 262144 := pc_lt (pc_8 p)
theorem pc_cd_inj {p q : pg_T} (h : pc_cd p = pc_cd q) : p = q := by
  have hp := pc_cd_lt p
  have hq := pc_cd_lt q
  have e : pc_code (pg_f p) = pc_code (pg_f q) := (nI_eq (by omega) (by omega)).mp h
  refine pg_ext (fun x hx => ?_)
  rw [← pc_dN (pc_8 p) hx, e, pc_dN (pc_8 q) hx]
theorem pc_one : pc_cd pg_one = 181896 := by decide
theorem pc_cd_one {p : pg_T} : pc_cd p = 181896 ↔ p = pg_one := by
  constructor
  · intro h
    rw [← pc_one] at h
    exact pc_cd_inj h
  · intro h
    rw [h, pc_one]
theorem pc_nn {n : Nat} (h : n < 2 ^ 31) : ¬ nI n = -4 := by
  intro e
  have h1 := nI_toInt h
  rw [e] at h1
  have h2 : (-4 : Int32).toInt = -4 := by decide
  omega
theorem pc_cd_nn (p : pg_T) : ¬ pc_cd p = -4 := pc_nn (by have := pc_cd_lt p; omega)
theorem pc_oc_nn (p : pg_T) : ¬ pc_oc p < 0 := nI_pos (by have := pc_olt p; omega)
theorem pc_digit (p : pg_T) {i : Nat} (hi : i < 6) : (pc_cd p >>> ((3 * nI i) &&& 31)) &&& 7 = nI (pg_f p i) := pc_dig (pc_8 p) hi
/-- a permutation out of six digits that reach all -/
theorem pc_mk (d : Nat → Nat) (h1 : ∀ x, x < 6 → d x < 6) (h2 : ∀ y, y < 6 → ∃ x, x < 6 ∧ d x = y) : ∃ p : pg_T, ∀ x, x < 6 → pg_f p x = d x := by
  have hg : ∃ g : Nat → Nat, ∀ y, y < 6 → g y < 6 ∧ d (g y) = y := by
    refine ⟨fun y => if h : y < 6 then Classical.choose (h2 y h) else y, fun y hy => ?_⟩
    dsimp only
    rw [dif_pos hy]
    exact Classical.choose_spec (h2 y hy)
  obtain ⟨g, hg⟩ := hg
  have gd : ∀ x, x < 6 → g (d x) = x := by
    intro x hx
    have nd : ((List.range 6).map g).Nodup := pg_nd_map g (fun a b ha hb e => by
      have ha' := List.mem_range.mp ha
      have hb' := List.mem_range.mp hb
      rw [← (hg a ha').2, e, (hg b hb').2]) List.nodup_range
    have sb : (List.range 6).map g ⊆ List.range 6 := by
      intro z hz
      obtain ⟨w, hw, rfl⟩ := List.mem_map.mp hz
      exact List.mem_range.mpr (hg w (List.mem_range.mp hw)).1
    have hm : x ∈ (List.range 6).map g := by
      apply Classical.byContradiction
      intro hn
      have := (List.nodup_cons.mpr ⟨hn, nd⟩).length_le_of_subset (l₂ := List.range 6) (fun z hz => by
        rcases List.mem_cons.mp hz with e | e
        · rw [e]; exact List.mem_range.mpr hx
        · exact sb e)
      rw [List.length_cons, List.length_map, List.length_range] at this
      omega
    obtain ⟨w, hw, rfl⟩ := List.mem_map.mp hm
    rw [(hg w (List.mem_range.mp hw)).2]
  refine ⟨⟨(fun x => if x < 6 then d x else x, fun y => if y < 6 then g y else y), fun x => ?_, fun y => ?_, fun x hx => ?_⟩, fun x hx => ?_⟩
  · dsimp only
    by_cases e : x < 6
    · rw [if_pos e, if_pos (h1 x e), gd x e]
    · rw [if_neg e, if_neg e]
  · dsimp only
    by_cases e : y < 6
    · rw [if_pos e, if_pos (hg y e).1, (hg y e).2]
    · rw [if_neg e, if_neg e]
  · dsimp only
    rw [if_neg (by omega)]
  · exact if_pos hx
/-! masks of points -/
theorem pc_bit1 {m x : Nat} (hm : m < 64) (hx : x < 6) : ((nI m >>> (nI x &&& 31)) &&& 1) = 1 ↔ m.testBit x = true := by
  have hd := Nat.div_le_self m (2 ^ x)
  rw [pk_shrN (by omega) _ x (pc_c1 x hx), pk_andN (by omega) 1 (by decide), Nat.testBit_eq_decide_div_mod_eq, decide_eq_true_iff]
  exact nI_eq (b := 1) (by omega) (by omega)
theorem pc_bit0 {m x : Nat} (hm : m < 64) (hx : x < 6) : ((nI m >>> (nI x &&& 31)) &&& 1) = 0 ↔ ¬ m.testBit x = true := by
  have hd := Nat.div_le_self m (2 ^ x)
  rw [pk_shrN (by omega) _ x (pc_c1 x hx), pk_andN (by omega) 1 (by decide), Nat.testBit_eq_decide_div_mod_eq, decide_eq_true_iff]
  refine Iff.trans (nI_eq (b := 0) (by omega) (by omega)) ?_
  generalize m / 2 ^ x = z
  omega
theorem pc_shl1 : ∀ k, k < 6 → (1 : Int32) <<< (nI k &&& 31) = nI (2 ^ k) := by decide
theorem pc_low : ∀ k, k < 6 → (((1 : Int32) <<< (nI k &&& 31)) - 1).toBitVec.toNat = 2 ^ k - 1 := by decide
theorem pc_p64 {k : Nat} (h : k < 6) : 2 ^ k < 64 := by
  show 2 ^ k < 2 ^ 6
  exact Nat.pow_lt_pow_right (by omega) h
theorem pc_or64 {a b : Nat} (ha : a < 64) (hb : b < 64) : a ||| b < 64 := Nat.or_lt_two_pow (n := 6) ha hb
theorem pc_bext {a b : Nat} (ha : a < 64) (hb : b < 64) (h : ∀ y, y < 6 → (a.testBit y = true ↔ b.testBit y = true)) : a = b := by
  apply Nat.eq_of_testBit_eq
  intro i
  rcases Nat.lt_or_ge i 6 with z | z
  · exact Bool.eq_iff_iff.mpr (h i z)
  · rw [Nat.testBit_lt_two_pow (Nat.lt_of_lt_of_le ha (Nat.pow_le_pow_right (n := 2) (i := 6) (by omega) z)), Nat.testBit_lt_two_pow (Nat.lt_of_lt_of_le hb (Nat.pow_le_pow_right (n := 2) (i := 6) (by omega) z))]
theorem pc_addbit (m k y : Nat) : (m ||| 2 ^ k).testBit y = true ↔ m.testBit y = true ∨ k = y := by
  rw [Nat.testBit_or, Nat.testBit_two_pow, Bool.or_eq_true, decide_eq_true_iff]
theorem pc_lowbits {m x : Nat} (hm : m < 64) (hx : x < 6) : (nI m &&& (((1 : Int32) <<< (nI x &&& 31)) - 1)) = 0 ↔ ∀ y, y < x → ¬ m.testBit y = true := by
  have hd := Nat.mod_le m (2 ^ x)
  rw [pk_andN (by omega) x (pc_low x hx)]
  refine Iff.trans (nI_eq (b := 0) (by omega) (by omega)) ?_
  constructor
  · intro h y hy e
    have := Nat.testBit_mod_two_pow m x y
    rw [h, e, Nat.zero_testBit] at this
    simp [hy] at this
  · intro h
    apply Nat.eq_of_testBit_eq
    intro y
    rw [Nat.testBit_mod_two_pow, Nat.zero_testBit]
    by_cases hy : y < x
    · have := h y hy
      simp [hy]
      exact Bool.eq_false_iff.mpr this
    · simp [hy]
end
section
/-! the methods that change nothing: products, inverses, codes -/
theorem pw_digit {post : Int32 → Prop} {u : St1} {p : pg_T} {i : Nat} (hi : i < 6) (hp : post (nI (pg_f p i))) : wpX_digit post u (pc_cd p) (nI i) := by
  obtain ⟨c, b, sc, w, o, ws, a1, a2, a3, a4, a5, a6, a7⟩ := u
  show post ((pc_cd p >>> ((3 * nI i) &&& 31)) &&& 7)
  rw [pc_digit p hi]
  exact hp
theorem pw_times {post : Int32 → Prop} {u : St1} {p q : pg_T} (hp : post (pc_cd (pg_mul p q))) : wpX_times post u (pc_cd p) (pc_cd q) := by
  obtain ⟨c, b, sc, w, o, ws, a1, a2, a3, a4, a5, a6, a7⟩ := u
  refine Exists.elim (pk_loop (σ := Unit) (fun n i _ => wX_times_5 post (pc_cd p) (pc_cd q) c b sc w o ws a1 a2 a3 a4 a5 a6 a7 n (nI (pc_code (fun y => if y < i then pg_f q (pg_f p y) else 0))) (nI (3 * i))) (fun _ _ => True) 6 0 () (by omega) trivial ?_ ?_) (fun n hn => ?_)
  · intro n _ _
    refine pk_le 18 18 (fun _ => ?_) (fun z => absurd z (by omega))
    rw [pc_end]
    exact hp
  · intro n i _ hi _ hw
    refine pk_le 18 (3 * i) (fun z => absurd z (by omega)) (fun _ => nm_r ?_ (nm_r (nI_add (3 * i) 3) (hw () trivial)))
    unfold pc_cd
    rw [pc_dig' (pc_8 p) hi, pc_dig (pc_8 q) (pg_lt p hi)]
    exact pc_next (F := fun y => pg_f q (pg_f p y)) (fun x hx => pc_8 q _ (pg_lt p hx)) hi
  · have hn' := hn
    rw [pc_start] at hn'
    exact ⟨n, hn'⟩
theorem pw_inverted {post : Int32 → Prop} {u : St1} {p : pg_T} (hp : post (pc_cd (pg_inv p))) : wpX_inverted post u (pc_cd p) := by
  obtain ⟨c, b, sc, w, o, ws, a1, a2, a3, a4, a5, a6, a7⟩ := u
  refine Exists.elim (pk_loop (σ := Unit) (fun n i _ => wX_inverted_4 post (pc_cd p) c b sc w o ws a1 a2 a3 a4 a5 a6 a7 n (nI (pc_code (fun y => if pg_g p y < i then pg_g p y else 0))) (nI i)) (fun _ _ => True) 6 0 () (by omega) trivial ?_ ?_) (fun n hn => ?_)
  · intro n _ _
    refine pk_le 6 6 (fun _ => ?_) (fun z => absurd z (by omega))
    rw [pc_congr (h := fun y => if pg_g p y < 6 then pg_g p y else 0) (k := pg_f (pg_inv p)) (fun y hy => if_pos (pg_glt p hy))]
    exact hp
  · intro n i _ hi _ hw
    refine pk_le 6 i (fun z => absurd z (by omega)) (fun _ => nm_r ?_ (nm_r (nI_1 i) (hw () trivial)))
    have hpi := pg_lt p hi
    have hb : i * 2 ^ (3 * pg_f p i) < 2 ^ 32 := by
      have h1 : (2 : Nat) ^ (3 * pg_f p i) ≤ 2 ^ 15 := Nat.pow_le_pow_right (by omega) (by omega)
      have h2 : i * 2 ^ (3 * pg_f p i) ≤ 5 * 2 ^ 15 := Nat.mul_le_mul (by omega) h1
      omega
    rw [pc_digit p hi, pc_3, pk_shlN _ (3 * pg_f p i) (pc_cnt _ hpi) hb, pc_or, pc_put (h := fun y => if pg_g p y < i then pg_g p y else 0) (fun x hx => by
      have := pg_glt p hx
      split <;> omega) hpi (by omega) (by rw [pg_gf, if_neg (by omega)])]
    apply congrArg nI
    apply pc_congr
    intro y hy
    by_cases e : y = pg_f p i
    · rw [if_pos e, e, pg_gf, if_pos (by omega)]
    · rw [if_neg e]
      have ne : pg_g p y ≠ i := fun z => e (by rw [← z, pg_fg])
      by_cases g : pg_g p y < i
      · rw [if_pos g, if_pos (by omega)]
      · rw [if_neg g, if_neg (by omega)]
  · have hn' := hn
    rw [show pc_code (fun y => if pg_g p y < 0 then pg_g p y else 0) = 0 from by unfold pc_code; simp, nI_0] at hn'
    exact ⟨n, hn'⟩
theorem pw_conj {post : Int32 → Prop} {u : St1} {p q : pg_T} (hp : post (pc_cd (pg_mul (pg_mul (pg_inv q) p) q))) : wpX_conjugated post u (pc_cd p) (pc_cd q) := by
  obtain ⟨c, b, sc, w, o, ws, a1, a2, a3, a4, a5, a6, a7⟩ := u
  unfold wpX_conjugated
  refine pw_inverted ?_
  refine pw_times ?_
  refine pw_times ?_
  exact hp
/-! outside codes -/
theorem pw_bad {post : Int32 → Prop} {u : St1} {x : Int32} (h0 : ∀ p, x = pc_oc p → post 0) (h1 : (∀ p, ¬ x = pc_oc p) → post 1) : wpX_bad post u x := by
  obtain ⟨c, b, sc, w, o, ws, a1, a2, a3, a4, a5, a6, a7⟩ := u
  refine br_c (fun z => h1 (fun p e => pc_oc_nn p (e ▸ z))) (fun z => br_c (fun z2 => ?_) (fun z2 => h1 (fun p e => z2 ?_)))
  · obtain ⟨M, hM, rfl⟩ := nI_of2 (M := 46655) (n := 46655) (by decide) z z2
    have hpw : ∀ i, M / 6 ^ (i + 1) = M / 6 ^ i / 6 := fun i => by rw [Nat.pow_succ, Nat.div_div_eq_div_mul]
    have hle : ∀ i, M / 6 ^ i ≤ M := fun i => Nat.div_le_self _ _
    refine Exists.elim (pk_loop (σ := Nat) (fun n i m => wX_bad_19 post c b sc w o ws a1 a2 a3 a4 a5 a6 a7 n (nI m) (nI (M / 6 ^ i)) (nI i)) (fun i m => m < 64 ∧ ∀ y, y < 6 → (m.testBit y = true ↔ ∃ x, x < i ∧ M / 6 ^ x % 6 = y)) 6 0 0 (by omega) ⟨by omega, fun y _ => ?_⟩ ?_ ?_) (fun n hn => ?_)
    · rw [Nat.zero_testBit]
      exact ⟨fun t => absurd t (by decide), fun t => by obtain ⟨x, hx, _⟩ := t; omega⟩
    · intro n m hm
      refine pk_le 6 6 (fun _ => pk_eq m 63 (fun e => ?_) (fun e => ?_)) (fun z => absurd z (by omega))
      · subst e
        obtain ⟨p, hp⟩ := pc_mk (fun x => M / 6 ^ x % 6) (fun x _ => Nat.mod_lt _ (by omega)) (fun y hy => (hm.2 y hy).mp (by
          rcases pc_6 hy with e | e | e | e | e | e <;> subst e <;> decide))
        refine h0 p ?_
        apply congrArg nI
        unfold pc_out
        rw [hp 0 (by omega), hp 1 (by omega), hp 2 (by omega), hp 3 (by omega), hp 4 (by omega), hp 5 (by omega)]
        show M = M / 1 % 6 + 6 * (M / 6 % 6) + 36 * (M / 36 % 6) + 216 * (M / 216 % 6) + 1296 * (M / 1296 % 6) + 7776 * (M / 7776 % 6)
        omega
      · refine h1 (fun p ep => e ?_)
        have ho := pc_olt p
        have eM : M = pc_out (pg_f p) := (nI_eq (by omega) (by omega)).mp ep
        refine pc_bext hm.1 (by omega) (fun y hy => ?_)
        constructor
        · intro _
          rcases pc_6 hy with e | e | e | e | e | e <;> subst e <;> decide
        · intro _
          refine (hm.2 y hy).mpr ⟨pg_g p y, pg_glt p hy, ?_⟩
          rw [eM, pc_oN p (pg_glt p hy), pg_fg]
    · intro n i m hi hm hw
      have hr := Nat.mod_lt (M / 6 ^ i) (show 0 < 6 by omega)
      have hli := hle i
      refine pk_le 6 i (fun z => absurd z (by omega)) (fun _ => ⟨by decide, nm_r (e' := nI (m ||| 2 ^ (M / 6 ^ i % 6))) ?_ ⟨by decide, nm_r (e' := nI (M / 6 ^ (i + 1))) ?_ (nm_r (nI_1 i) (hw _ ⟨pc_or64 hm.1 (pc_p64 hr), fun y hy => ?_⟩))⟩⟩)
      · rw [← pc_or, ← pc_shl1 _ hr, ← pk_rem (d := 6) (by omega) (by omega) (by omega)]
        rfl
      · rw [hpw]
        exact pk_div (d := 6) (by omega) (by omega) (by omega)
      · rw [pc_addbit, hm.2 y hy]
        constructor
        · intro t
          rcases t with t | t
          · obtain ⟨x, hx, e⟩ := t
            exact ⟨x, by omega, e⟩
          · exact ⟨i, by omega, t⟩
        · intro t
          obtain ⟨x, hx, e⟩ := t
          by_cases ex : x = i
          · rw [ex] at e
            exact Or.inr e
          · exact Or.inl ⟨x, by omega, e⟩
    · have hn' := hn
      rw [nI_0, show M / 6 ^ 0 = M from Nat.div_one M] at hn'
      exact ⟨n, hn'⟩
  · have := pc_olt p
    rw [e]
    exact nI_le (b := 46655) (by omega) (by omega)
theorem pw_from {post : Int32 → Prop} {u : St1} {p : pg_T} (hp : post (pc_cd p)) : wpX_fromOutside post u (pc_oc p) := by
  obtain ⟨c, b, sc, w, o, ws, a1, a2, a3, a4, a5, a6, a7⟩ := u
  have ho := pc_olt p
  refine Exists.elim (pk_loop (σ := Unit) (fun n i _ => wX_fromOutside_7 post c b sc w o ws a1 a2 a3 a4 a5 a6 a7 n (nI (pc_code (fun y => if y < i then pg_f p y else 0))) (nI (pc_out (pg_f p) / 6 ^ i)) (nI i)) (fun _ _ => True) 6 0 () (by omega) trivial ?_ ?_) (fun n hn => ?_)
  · intro n _ _
    refine pk_le 6 6 (fun _ => ?_) (fun z => absurd z (by omega))
    rw [pc_end]
    exact hp
  · intro n i _ hi _ hw
    have hli := Nat.div_le_self (pc_out (pg_f p)) (6 ^ i)
    refine pk_le 6 i (fun z => absurd z (by omega)) (fun _ => ⟨by decide, nm_r ?_ ⟨by decide, nm_r (e' := nI (pc_out (pg_f p) / 6 ^ (i + 1))) ?_ (nm_r (nI_1 i) (hw () trivial))⟩⟩)
    · rw [pc_3, show nI (pc_out (pg_f p) / 6 ^ i) - nI (pc_out (pg_f p) / 6 ^ i) / 6 * 6 = nI (pg_f p i) from by
        rw [← pc_oN p hi]
        exact pk_rem (d := 6) (by omega) (by omega) (by omega)]
      exact pc_next (pc_8 p) hi
    · rw [Nat.pow_succ, ← Nat.div_div_eq_div_mul]
      exact pk_div (d := 6) (by omega) (by omega) (by omega)
  · have hn' := hn
    rw [pc_start, show pc_out (pg_f p) / 6 ^ 0 = pc_out (pg_f p) from Nat.div_one _, nI_0] at hn'
    exact ⟨n, hn'⟩
def pw_to (h : Nat → Nat) : Nat → Nat
  | 0 => 0
  | i + 1 => pw_to h i * 6 + h (5 - i)
theorem pw_to6 (h : Nat → Nat) : pw_to h 6 = pc_out h := by
  show (((((0 * 6 + h 5) * 6 + h 4) * 6 + h 3) * 6 + h 2) * 6 + h 1) * 6 + h 0 = pc_out h
  unfold pc_out
  omega
theorem pw_toOut {post : Int32 → Prop} {u : St1} {p : pg_T} (hp : post (pc_oc p)) : wpX_toOutside post u (pc_cd p) := by
  obtain ⟨c, b, sc, w, o, ws, a1, a2, a3, a4, a5, a6, a7⟩ := u
  refine Exists.elim (pk_loop (σ := Unit) (fun n i _ => wX_toOutside_4 post (pc_cd p) c b sc w o ws a1 a2 a3 a4 a5 a6 a7 n (nI (pw_to (pg_f p) i)) (nI (6 - i) + (-1))) (fun _ _ => True) 6 0 () (by omega) trivial ?_ ?_) (fun n hn => ?_)
  · intro n _ _
    refine br_t (by decide) ?_
    rw [pw_to6]
    exact hp
  · intro n i _ hi _ hw
    have e : nI (6 - i) + (-1) = nI (5 - i) := by
      rw [show 6 - i = (5 - i) + 1 by omega, pk_m1]
    refine br_f (by rw [e]; exact nI_pos (by omega)) (nm_r ?_ (nm_r (e' := nI (6 - (i + 1)) + (-1)) (by rw [e, show 6 - (i + 1) = 5 - i by omega]) (hw () trivial)))
    rw [e, pc_digit p (by omega), pw_to, ← nI_add, ← pk_mul]
    rfl
  · exact ⟨n, hn⟩
end
section
/-! the tables in the state -/
def pt_tab (C : pg_C) (a2 a3 : Nat → Int32) : Prop := ∀ i y, i < 6 → y < 6 → (C i y = none → a2 (i * 6 + y) = -4) ∧ (∀ p, C i y = some p → a2 (i * 6 + y) = pc_cd p ∧ a3 (i * 6 + y) = pc_cd (pg_inv p))
def pt_str (n : Nat) (s : Nat → pg_T) (l : Nat → Nat) (a4 a5 : Nat → Int32) : Prop := n ≤ 40 ∧ ∀ k, k < n → a4 k = pc_cd (s k) ∧ a5 k = nI (l k) ∧ l k < 6
theorem pt_ix (i y : Nat) : nI i * 6 + nI y = nI (i * 6 + y) := by
  rw [← nI_add, ← pk_mul]
  rfl
theorem pt_none {C : pg_C} {a2 a3 : Nat → Int32} (t : pt_tab C a2 a3) {i y : Nat} (hi : i < 6) (hy : y < 6) : a2 (i * 6 + y) = -4 ↔ C i y = none := by
  constructor
  · intro h
    cases e : C i y with
    | none => rfl
    | some p =>
      rw [((t i y hi hy).2 p e).1] at h
      exact absurd h (pc_cd_nn p)
  · exact (t i y hi hy).1
def pt_put (C : pg_C) (i z : Nat) (q : pg_T) : pg_C := fun a b => if a = i ∧ b = z then some q else C a b
theorem pt_put_s (C : pg_C) (i z : Nat) (q : pg_T) : pt_put C i z q i z = some q := if_pos ⟨rfl, rfl⟩
theorem pt_put_n (C : pg_C) (i z : Nat) (q : pg_T) {a b : Nat} (h : ¬ (a = i ∧ b = z)) : pt_put C i z q a b = C a b := if_neg h
theorem pt_tab_put {C : pg_C} {a2 a3 : Nat → Int32} (t : pt_tab C a2 a3) {i z : Nat} (hi : i < 6) (hz : z < 6) (q : pg_T) {x y : Int32} (hx : x = pc_cd q) (hy : y = pc_cd (pg_inv q)) : pt_tab (pt_put C i z q) (upd a2 (i * 6 + z) x) (upd a3 (i * 6 + z) y) := by
  intro a b ha hb
  by_cases e : a = i ∧ b = z
  · obtain ⟨rfl, rfl⟩ := e
    rw [pt_put_s, pk_us, pk_us]
    refine ⟨fun z => absurd z (by simp), fun p hp => ?_⟩
    rw [← Option.some.inj hp]
    exact ⟨hx, hy⟩
  · rw [pt_put_n _ _ _ _ e, pk_un (by omega), pk_un (by omega)]
    exact t a b ha hb
theorem pw_sift {post : Int32 → Prop} {C : pg_C} {c b sc w o ws : Int32} {a1 a2 a3 a4 a5 a6 a7 : Nat → Int32} (t : pt_tab C a2 a3) {g : pg_T} (hp : post (pc_cd (pg_sf C 6 0 g))) :
    wpX_sift post (c, b, sc, w, o, ws, a1, a2, a3, a4, a5, a6, a7) (pc_cd g) := by
  refine Exists.elim (pk_loop (σ := pg_T) (fun n i r => wX_sift_4 post c b sc w o ws a1 a2 a3 a4 a5 a6 a7 n (pc_cd r) (nI i)) (fun i r => post (pc_cd (pg_sf C (6 - i) i r))) 6 0 g (by omega) hp ?_ ?_) (fun n hn => ⟨n, hn⟩)
  · intro n r hr
    exact pk_le 6 6 (fun _ => hr) (fun z => absurd z (by omega))
  · intro n i r hi hr hw
    have hy := pg_lt r hi
    refine pk_le 6 i (fun z => absurd z (by omega)) (fun _ => ?_)
    refine pw_digit hi ?_
    rw [pt_ix, nI_clamp (by omega)]
    refine ⟨vp_in_nI (by omega) (by omega), nm_e ?_⟩
    rw [show 6 - i = (6 - (i + 1)) + 1 by omega] at hr
    cases e : C i (pg_f r i) with
    | none =>
      rw [pg_sf_none e] at hr
      exact br_t ((t i _ hi hy).1 e) hr
    | some p =>
      rw [pg_sf_some e] at hr
      obtain ⟨e2, e3⟩ := (t i _ hi hy).2 p e
      refine br_f (by rw [e2]; exact pc_cd_nn p) ⟨vp_in_nI (by omega) (by omega), ?_⟩
      rw [e3]
      refine pw_times ?_
      exact nm_r (nI_1 i) (hw _ hr)
theorem pw_first {post : Int32 → Prop} {u : St1} {g : pg_T} {j : Nat} (hj : j < 6) (hf : pg_fix j g) (hm : pg_f g j ≠ j) (hp : post (nI j)) : wpX_firstMoved post u (pc_cd g) := by
  obtain ⟨c, b, sc, w, o, ws, a1, a2, a3, a4, a5, a6, a7⟩ := u
  refine Exists.elim (pk_loop (σ := Unit) (fun n i _ => wX_firstMoved_2 post (pc_cd g) c b sc w o ws a1 a2 a3 a4 a5 a6 a7 n (nI i)) (fun _ _ => True) j 0 () (by omega) trivial ?_ ?_) (fun n hn => ⟨n, hn⟩)
  · intro n _ _
    refine pk_le 6 j (fun z => absurd z (by omega)) (fun _ => ?_)
    refine pw_digit hj ?_
    exact br_f (fun z => hm ((nI_eq (by have := pg_lt g hj; omega) (by omega)).mp z)) hp
  · intro n i _ hi _ hw
    refine pk_le 6 i (fun z => absurd z (by omega)) (fun _ => ?_)
    refine pw_digit (by omega) ?_
    rw [hf i hi]
    exact br_t rfl (nm_r (nI_1 i) (hw () trivial))
/-! extend -/
def pe_snd (n : Nat) (s : Nat → pg_T) (l : Nat → Nat) (C : pg_C) (i : Nat) : Prop := C i i = some pg_one ∧ ∀ y p, C i y = some p → y < 6 ∧ pg_f p i = y ∧ pg_gen (pg_S n s l i) p
def pe_J (n : Nat) (s : Nat → pg_T) (l : Nat → Nat) (C0 C : pg_C) (i : Nat) (D : Nat → Nat → Prop) : Prop :=
  (∀ a b, a ≠ i → C a b = C0 a b) ∧ (∀ y, C0 i y ≠ none → C i y ≠ none) ∧ pe_snd n s l C i ∧ (∀ y k, D y k → y < 6 → k < n → i ≤ l k → C0 i y ≠ none → C i (pg_f (s k) y) ≠ none)
theorem pe_mono {n : Nat} {s : Nat → pg_T} {l : Nat → Nat} {C0 C : pg_C} {i : Nat} {D D' : Nat → Nat → Prop} (h : pe_J n s l C0 C i D) (hD : ∀ y k, y < 6 → k < n → i ≤ l k → D' y k → D y k ∨ (C0 i y ≠ none → C i (pg_f (s k) y) ≠ none)) : pe_J n s l C0 C i D' :=
  ⟨h.1, h.2.1, h.2.2.1, fun y k hd hy hk hl hn => by
    rcases hD y k hy hk hl hd with t | t
    · exact h.2.2.2 y k t hy hk hl hn
    · exact t hn⟩
/-- one carrier more -/
theorem pe_add {n : Nat} {s : Nat → pg_T} {l : Nat → Nat} {C0 C : pg_C} {i : Nat} {D : Nat → Nat → Prop} (h : pe_J n s l C0 C i D) {y k : Nat} {p : pg_T} (hk : k < n) (hl : i ≤ l k) (hp : C i y = some p) (hz : C i (pg_f (s k) y) = none) :
    pe_J n s l C0 (pt_put C i (pg_f (s k) y) (pg_mul p (s k))) i D := by
  obtain ⟨y6, py, pg⟩ := h.2.2.1.2 y p hp
  have up : ∀ z, C i z ≠ none → pt_put C i (pg_f (s k) y) (pg_mul p (s k)) i z ≠ none := by
    intro z h
    by_cases e : z = pg_f (s k) y
    · rw [e, pt_put_s]; simp
    · rw [pt_put_n _ _ _ _ (fun t => e t.2)]; exact h
  refine ⟨fun a b hab => ?_, fun z hz => up z (h.2.1 z hz), ⟨?_, fun z q hq => ?_⟩, fun y' k' hd hy hk hl hn => up _ (h.2.2.2 y' k' hd hy hk hl hn)⟩
  · rw [pt_put_n _ _ _ _ (fun t => hab t.1)]
    exact h.1 a b hab
  · rw [pt_put_n]
    · exact h.2.2.1.1
    · intro t
      rw [← t.2, h.2.2.1.1] at hz
      exact absurd hz (by simp)
  · by_cases e : z = pg_f (s k) y
    · rw [e, pt_put_s] at hq
      rw [← Option.some.inj hq, e]
      refine ⟨pg_lt _ y6, by rw [pg_f_mul, py], (pg_gen_sub _).2.1 _ _ pg (pg_gen_in ⟨k, hk, hl, rfl⟩)⟩
    · rw [pt_put_n _ _ _ _ (fun t => e t.2)] at hq
      exact h.2.2.1.2 z q hq
theorem pw_ext10 {post : St1 → Prop} {J2 : Int32 → (Nat → Int32) → (Nat → Int32) → (Nat → Int32) → (Nat → Int32) → (Nat → Int32) → (Nat → Int32) → (Nat → Int32) → Prop} {c b w o ws : Int32} {a1 a2 a3 a4 a5 a6 a7 : Nat → Int32} {n : Nat} {s : Nat → pg_T} {l : Nat → Nat} {C0 C : pg_C} {i y : Nat}
    (hs : pt_str n s l a4 a5) (hi : i < 6) (hy : y < 6) (t : pt_tab C a2 a3) (h : pe_J n s l C0 C i (fun y' _ => y' < y))
    (H : ∀ C a2 a3, pt_tab C a2 a3 → pe_J n s l C0 C i (fun y' _ => y' < y + 1) → J2 (nI (y + 1)) a1 a2 a3 a4 a5 a6 a7) :
    ∃ f, wX_extend_10 post J2 (nI i) (nI y) c b (nI n) w o ws f 0 a1 a2 a3 a4 a5 a6 a7 := by
  have h40 := hs.1
  refine Exists.elim (pk_loop (σ := (Nat → Int32) × (Nat → Int32)) (fun f k u => wX_extend_10 post J2 (nI i) (nI y) c b (nI n) w o ws f (nI k) a1 u.1 u.2 a4 a5 a6 a7) (fun k u => ∃ C, pt_tab C u.1 u.2 ∧ pe_J n s l C0 C i (fun y' k' => y' < y ∨ (y' = y ∧ k' < k))) n 0 (a2, a3) (by omega) ⟨C, t, pe_mono h (fun y' k' _ _ _ hd => Or.inl (by omega))⟩ ?_ ?_) (fun n hn => ⟨n, hn⟩)
  · intro f u hu
    obtain ⟨C, t, h⟩ := hu
    exact pk_le n n (fun _ => nm_r (nI_1 y) (H C u.1 u.2 t (pe_mono h (fun y' k' _ _ _ hd => Or.inl (by omega))))) (fun z => absurd z (by omega))
  · intro f k u hk hu hw
    obtain ⟨C, t, h⟩ := hu
    obtain ⟨e4, e5, l6⟩ := hs.2 k hk
    refine pk_le n k (fun z => absurd z (by omega)) (fun _ => ⟨vp_in_nI (by omega) (by omega), ?_⟩)
    rw [nI_clamp (show k < 2 ^ 31 by omega), e5, e4, pt_ix, nI_clamp (show i * 6 + y < 2 ^ 31 by omega)]
    refine pk_lt (l k) i (fun z => nm_r (nI_1 k) (hw _ ⟨C, t, pe_mono h (fun y' k' _ _ hl hd => ?_)⟩)) (fun hl => ⟨vp_in_nI (by omega) (by omega), ?_⟩)
    · by_cases e : k' = k
      · rw [e] at hl
        omega
      · exact Or.inl (by omega)
    · cases e : C i y with
      | none =>
        refine br_t ((t i y hi hy).1 e) (nm_r (nI_1 k) (hw _ ⟨C, t, pe_mono h (fun y' k' _ _ _ hd => ?_)⟩))
        by_cases e2 : y' = y
        · exact Or.inr (fun hn => absurd e (by rw [← e2]; exact h.2.1 y' hn))
        · exact Or.inl (by omega)
      | some p =>
        obtain ⟨p2, p3⟩ := (t i y hi hy).2 p e
        have hz := pg_lt (s k) hy
        refine br_f (by rw [p2]; exact pc_cd_nn p) ⟨vp_in_nI (by omega) (by omega), ?_⟩
        refine pw_digit hy ?_
        rw [pt_ix, nI_clamp (show i * 6 + pg_f (s k) y < 2 ^ 31 by omega), p2]
        refine ⟨vp_in_nI (by omega) (by omega), ?_⟩
        cases ez : C i (pg_f (s k) y) with
        | none =>
          refine br_t ((t i _ hi hz).1 ez) ⟨vp_in_nI (by omega) (by omega), vp_in_nI (by omega) (by omega), ?_⟩
          refine pw_times ?_
          refine ⟨vp_in_nI (by omega) (by omega), nm_e ⟨vp_in_nI (by omega) (by omega), ?_⟩⟩
          rw [pk_us]
          refine pw_inverted ?_
          refine ⟨vp_in_nI (by omega) (by omega), nm_e (nm_r (nI_1 k) (hw (_, _) ⟨_, pt_tab_put t hi hz (pg_mul p (s k)) rfl rfl, pe_mono (pe_add h hk hl e ez) (fun y' k' _ _ _ hd => ?_)⟩))⟩
          by_cases e2 : y' = y ∧ k' = k
          · refine Or.inr (fun _ => ?_)
            rw [e2.1, e2.2, pt_put_s]
            simp
          · exact Or.inl (by omega)
        | some q =>
          refine br_f (by rw [((t i _ hi hz).2 q ez).1]; exact pc_cd_nn q) (nm_r (nI_1 k) (hw _ ⟨C, t, pe_mono h (fun y' k' _ _ _ hd => ?_)⟩))
          by_cases e2 : y' = y ∧ k' = k
          · refine Or.inr (fun _ => ?_)
            rw [e2.1, e2.2, ez]
            simp
          · exact Or.inl (by omega)
theorem pw_extend {post : St1 → Prop} {c b w o ws : Int32} {a1 a2 a3 a4 a5 a6 a7 : Nat → Int32} {n : Nat} {s : Nat → pg_T} {l : Nat → Nat} {C0 : pg_C} {i : Nat}
    (hs : pt_str n s l a4 a5) (hi : i < 6) (t : pt_tab C0 a2 a3) (h : pe_snd n s l C0 i)
    (H : ∀ C a2 a3, pt_tab C a2 a3 → pe_J n s l C0 C i (fun _ _ => True) → post (c, b, nI n, w, o, ws, a1, a2, a3, a4, a5, a6, a7)) :
    wpX_extend post (c, b, nI n, w, o, ws, a1, a2, a3, a4, a5, a6, a7) (nI i) := by
  refine Exists.elim (pk_loop (σ := (Nat → Int32) × (Nat → Int32)) (fun f y u => wX_extend_2 post (nI i) c b (nI n) w o ws f (nI y) a1 u.1 u.2 a4 a5 a6 a7) (fun y u => ∃ C, pt_tab C u.1 u.2 ∧ pe_J n s l C0 C i (fun y' _ => y' < y)) 6 0 (a2, a3) (by omega) ⟨C0, t, fun _ _ _ => rfl, fun _ h => h, h, fun y k hd => absurd hd (by omega)⟩ ?_ ?_) (fun n hn => ⟨n, hn⟩)
  · intro f u hu
    obtain ⟨C, t, h⟩ := hu
    exact pk_le 6 6 (fun _ => H C u.1 u.2 t (pe_mono h (fun y' k' hy _ _ _ => Or.inl hy))) (fun z => absurd z (by omega))
  · intro f y u hy hu hw
    obtain ⟨C, t, h⟩ := hu
    exact pk_le 6 y (fun z => absurd z (by omega)) (fun _ => pw_ext10 hs hi hy t h (fun C a2 a3 t h => hw (a2, a3) ⟨C, t, h⟩))
end
section
/-! findCarriers -/
/-- a round of extend: closed stays closed, else the row grows or is closed -/
theorem pf_round {n : Nat} {s : Nat → pg_T} {l : Nat → Nat} {C0 C : pg_C} {i r : Nat} (hs0 : pe_snd n s l C0 i) (h : pe_J n s l C0 C i (fun _ _ => True)) (hr : pg_rowok n s l C0 i ∨ r + 1 ≤ pg_cn (fun y => C0 i y ≠ none)) :
    pg_rowok n s l C i ∨ r + 1 + 1 ≤ pg_cn (fun y => C i y ≠ none) := by
  have same : (∀ y, y < 6 → C i y ≠ none → C0 i y ≠ none) → pg_rowok n s l C i := by
    intro hh
    refine ⟨h.2.2.1.1, h.2.2.1.2, fun y k hk hl hy => ?_⟩
    have y6 : y < 6 := by
      cases e : C i y with
      | none => exact absurd e hy
      | some p => exact (h.2.2.1.2 y p e).1
    exact h.2.2.2 y k trivial y6 hk hl (hh y y6 hy)
  rcases hr with hr | hr
  · refine Or.inl (same (fun y _ hy => ?_))
    cases e : C i y with
    | none => exact absurd e hy
    | some p =>
      obtain ⟨_, h2, h3⟩ := h.2.2.1.2 y p e
      exact (pg_ok_sup hr y).mpr ⟨p, h3, h2⟩
  · by_cases hh : ∀ y, y < 6 → C i y ≠ none → C0 i y ≠ none
    · exact Or.inl (same hh)
    · refine Or.inr ?_
      have : ∃ y, y < 6 ∧ C i y ≠ none ∧ ¬ C0 i y ≠ none := by
        apply Classical.byContradiction
        intro hn
        refine hh (fun y hy h1 => Classical.byContradiction (fun h2 => hn ⟨y, hy, h1, h2⟩))
      obtain ⟨y, hy, h1, h2⟩ := this
      have := pg_cn_lt (S := fun y => C0 i y ≠ none) (S' := fun y => C i y ≠ none) (fun z _ hz => h.2.1 z hz) hy h2 h1
      omega
theorem pw_find58 {post : St1 → Prop} {J : Int32 → Int32 → Int32 → Int32 → Int32 → Int32 → Int32 → (Nat → Int32) → (Nat → Int32) → (Nat → Int32) → (Nat → Int32) → (Nat → Int32) → (Nat → Int32) → (Nat → Int32) → Prop} {c b w o ws : Int32} {a1 a2 a3 a4 a5 a6 a7 : Nat → Int32} {n : Nat} {s : Nat → pg_T} {l : Nat → Nat} {C0 : pg_C} {i : Nat}
    (hs : pt_str n s l a4 a5) (hi : i < 6) (t : pt_tab C0 a2 a3) (h : pe_snd n s l C0 i)
    (H : ∀ C a2 a3, pt_tab C a2 a3 → (∀ a b, a ≠ i → C a b = C0 a b) → pg_rowok n s l C i → J (nI (i + 1)) c b (nI n) w o ws a1 a2 a3 a4 a5 a6 a7) :
    ∃ f, wX_findCarriers_58 post J (nI i) f 0 c b (nI n) w o ws a1 a2 a3 a4 a5 a6 a7 := by
  refine Exists.elim (pk_loop (σ := (Nat → Int32) × (Nat → Int32)) (fun f r u => wX_findCarriers_58 post J (nI i) f (nI r) c b (nI n) w o ws a1 u.1 u.2 a4 a5 a6 a7) (fun r u => ∃ C, pt_tab C u.1 u.2 ∧ (∀ a b, a ≠ i → C a b = C0 a b) ∧ pe_snd n s l C i ∧ (pg_rowok n s l C i ∨ r + 1 ≤ pg_cn (fun y => C i y ≠ none))) 6 0 (a2, a3) (by omega) ⟨C0, t, fun _ _ _ => rfl, h, Or.inr (pg_cn_pos hi (by rw [h.1]; simp))⟩ ?_ ?_) (fun n hn => ⟨n, hn⟩)
  · intro f u hu
    obtain ⟨C, t, h1, h2, h3⟩ := hu
    refine pk_le 6 6 (fun _ => nm_r (nI_1 i) (H C u.1 u.2 t h1 ?_)) (fun z => absurd z (by omega))
    rcases h3 with h3 | h3
    · exact h3
    · have := pg_cn_6 (fun y => C i y ≠ none)
      omega
  · intro f r u hr hu hw
    obtain ⟨C, t, h1, h2, h3⟩ := hu
    refine pk_le 6 r (fun z => absurd z (by omega)) (fun _ => ?_)
    refine pw_extend hs hi t h2 (fun C' a2 a3 t' hJ => ?_)
    exact nm_r (nI_1 r) (hw (a2, a3) ⟨C', t', fun a b hab => by rw [hJ.1 a b hab, h1 a b hab], hJ.2.2.1, pf_round h2 hJ h3⟩)
theorem pf_row_congr {n : Nat} {s : Nat → pg_T} {l : Nat → Nat} {C C' : pg_C} {i : Nat} (e : ∀ b, C' i b = C i b) (h : pg_rowok n s l C i) : pg_rowok n s l C' i := by
  refine ⟨by rw [e]; exact h.1, fun y p hp => h.2.1 y p (by rw [← e]; exact hp), fun y k hk hl hy => ?_⟩
  rw [e] at hy ⊢
  exact h.2.2 y k hk hl hy
theorem pw_find24 {post : St1 → Prop} {c b w o ws : Int32} {a1 a2 a3 a4 a5 a6 a7 : Nat → Int32} {n : Nat} {s : Nat → pg_T} {l : Nat → Nat}
    (hs : pt_str n s l a4 a5) (h4 : ∀ j, j < 36 → a2 j = -4)
    (H : ∀ C a2 a3, pt_tab C a2 a3 → pg_ok n s l C → post (c, b, nI n, w, o, ws, a1, a2, a3, a4, a5, a6, a7)) :
    ∃ f, wX_findCarriers_24 post f 0 c b (nI n) w o ws a1 a2 a3 a4 a5 a6 a7 := by
  refine Exists.elim (pk_loop (σ := (Nat → Int32) × (Nat → Int32)) (fun f i u => wX_findCarriers_24 post f (nI i) c b (nI n) w o ws a1 u.1 u.2 a4 a5 a6 a7) (fun i u => ∃ C, pt_tab C u.1 u.2 ∧ (∀ j, j < i → pg_rowok n s l C j) ∧ (∀ j, i ≤ j → ∀ y, C j y = none)) 6 0 (a2, a3) (by omega) ⟨fun _ _ => none, fun i y hi hy => ⟨fun _ => h4 _ (by omega), fun p hp => absurd hp (by simp)⟩, fun j hj => absurd hj (by omega), fun _ _ _ => rfl⟩ ?_ ?_) (fun n hn => ⟨n, hn⟩)
  · intro f u hu
    obtain ⟨C, t, h1, h2⟩ := hu
    exact pk_le 6 6 (fun _ => H C u.1 u.2 t h1) (fun z => absurd z (by omega))
  · intro f i u hi hu hw
    obtain ⟨C, t, h1, h2⟩ := hu
    refine pk_le 6 i (fun z => absurd z (by omega)) (fun _ => ?_)
    rw [pt_ix, nI_clamp (show i * 6 + i < 2 ^ 31 by omega)]
    refine ⟨vp_in_nI (by omega) (by omega), nm_e ⟨vp_in_nI (by omega) (by omega), nm_e ?_⟩⟩
    refine pw_find58 hs hi (pt_tab_put t hi hi pg_one pc_one.symm (by rw [pg_inv_one, pc_one])) ⟨pt_put_s _ _ _ _, fun y p hp => ?_⟩ (fun C' a2 a3 t' e hr => hw (a2, a3) ⟨C', t', fun j hj => ?_, fun j hj y => ?_⟩)
    · by_cases e : y = i
      · rw [e, pt_put_s] at hp
        rw [← Option.some.inj hp, e]
        exact ⟨hi, rfl, (pg_gen_sub _).1⟩
      · rw [pt_put_n _ _ _ _ (fun t => e t.2), h2 i (Nat.le_refl i)] at hp
        exact absurd hp (by simp)
    · by_cases ej : j = i
      · rw [ej]; exact hr
      · refine pf_row_congr (fun b => ?_) (h1 j (by omega))
        rw [e j b ej, pt_put_n _ _ _ _ (fun t => ej t.1)]
    · rw [e j y (by omega), pt_put_n _ _ _ _ (fun t => by omega)]
      exact h2 j (by omega) y
theorem pw_find {post : St1 → Prop} {c b w o ws : Int32} {a1 a2 a3 a4 a5 a6 a7 : Nat → Int32} {n : Nat} {s : Nat → pg_T} {l : Nat → Nat}
    (hs : pt_str n s l a4 a5)
    (H : ∀ C a2 a3, pt_tab C a2 a3 → pg_ok n s l C → post (c, b, nI n, w, o, ws, a1, a2, a3, a4, a5, a6, a7)) :
    wpX_findCarriers post (c, b, nI n, w, o, ws, a1, a2, a3, a4, a5, a6, a7) := by
  refine Exists.elim (pk_loop (σ := Nat → Int32) (fun f k a2 => wX_findCarriers_2 post c b (nI n) w o ws f (nI k) a1 a2 a3 a4 a5 a6 a7) (fun k a2 => ∀ j, j < k → a2 j = -4) 36 0 a2 (by omega) (fun j hj => absurd hj (by omega)) ?_ ?_) (fun n hn => ⟨n, hn⟩)
  · intro f a2 h
    exact pk_le 36 36 (fun _ => pw_find24 hs h H) (fun z => absurd z (by omega))
  · intro f k a2 hk h hw
    refine pk_le 36 k (fun z => absurd z (by omega)) (fun _ => ⟨vp_in_nI (by omega) (by omega), nm_e (nm_r (nI_1 k) (hw _ (fun j hj => ?_)))⟩)
    rw [nI_clamp (by omega)]
    by_cases e : j = k
    · rw [e, pk_us]
    · rw [pk_un e]
      exact h j (by omega)
/-! learn -/
def pl_u {α : Type} (f : Nat → α) (n : Nat) (x : α) : Nat → α := fun k => if k = n then x else f k
theorem pl_us {α : Type} (f : Nat → α) (n : Nat) (x : α) : pl_u f n x n = x := if_pos rfl
theorem pl_un {α : Type} (f : Nat → α) (n : Nat) (x : α) {k : Nat} (h : k ≠ n) : pl_u f n x k = f k := if_neg h
def pl_K (n : Nat) (s : Nat → pg_T) (l : Nat → Nat) (C : pg_C) (a2 a3 a4 a5 : Nat → Int32) : Prop := pt_tab C a2 a3 ∧ pt_str n s l a4 a5 ∧ pg_st n s l ∧ pg_ok n s l C ∧ n + 6 ≤ pg_tot C
theorem pl_tv {n : Nat} {s : Nat → pg_T} {l : Nat → Nat} {C : pg_C} {a2 a3 a4 a5 : Nat → Int32} (h : pl_K n s l C a2 a3 a4 a5) : pg_tv C := pg_ok_tv h.2.2.1 h.2.2.2.1
theorem pl_15 {n : Nat} {s : Nat → pg_T} {l : Nat → Nat} {C : pg_C} {a2 a3 a4 a5 : Nat → Int32} (h : pl_K n s l C a2 a3 a4 a5) : n ≤ 15 := by
  have h1 := pg_tot_le (pl_tv h)
  have h2 := h.2.2.2.2
  omega
theorem pl_mono {n : Nat} {s : Nat → pg_T} {l : Nat → Nat} (g : pg_T) (j i : Nat) {a : pg_T} (h : pg_gen (pg_S n s l i) a) : pg_gen (pg_S (n + 1) (pl_u s n g) (pl_u l n j) i) a :=
  pg_gen_mono (fun b hb => by
    obtain ⟨k, hk, hl, e⟩ := hb
    exact pg_gen_in ⟨k, by omega, by rw [pl_un _ _ _ (by omega)]; exact hl, by rw [pl_un _ _ _ (by omega)]; exact e⟩) h
theorem pl_new {n : Nat} {s : Nat → pg_T} {l : Nat → Nat} (g : pg_T) (j : Nat) {i : Nat} (h : i ≤ j) : pg_gen (pg_S (n + 1) (pl_u s n g) (pl_u l n j) i) g :=
  pg_gen_in ⟨n, by omega, by rw [pl_us]; exact h, (pl_us _ _ _).symm⟩
theorem pl_le {n : Nat} {s : Nat → pg_T} {l : Nat → Nat} {g : pg_T} {j : Nat} {H : pg_T → Prop} (hH : pg_sub H) (h : ∀ a, pg_gen (pg_S n s l 0) a → H a) (hg : H g) {a : pg_T} (ha : pg_gen (pg_S (n + 1) (pl_u s n g) (pl_u l n j) 0) a) : H a :=
  pg_gen_le hH (fun b hb => by
    obtain ⟨k, hk, _, e⟩ := hb
    by_cases ek : k = n
    · rw [e, ek, pl_us]; exact hg
    · rw [e, pl_un _ _ _ ek]
      exact h _ (pg_gen_in ⟨k, by omega, Nat.zero_le _, rfl⟩)) ha
theorem pw_learn {post : Int32 → St1 → Prop} {c b w o ws : Int32} {a1 a2 a3 a4 a5 a6 a7 : Nat → Int32} {n : Nat} {s : Nat → pg_T} {l : Nat → Nat} {C : pg_C} {g : pg_T}
    (hK : pl_K n s l C a2 a3 a4 a5)
    (H0 : pg_sf C 6 0 g = pg_one → post 0 (c, b, nI n, w, o, ws, a1, a2, a3, a4, a5, a6, a7))
    (H1 : ∀ j C' a2 a3 a4 a5, pl_K (n + 1) (pl_u s n (pg_sf C 6 0 g)) (pl_u l n j) C' a2 a3 a4 a5 → post 1 (c, b, nI (n + 1), w, o, ws, a1, a2, a3, a4, a5, a6, a7)) :
    wpX_learn post (c, b, nI n, w, o, ws, a1, a2, a3, a4, a5, a6, a7) (pc_cd g) := by
  have h15 := pl_15 hK
  have tv := pl_tv hK
  unfold wpX_learn
  refine pw_sift hK.1 ?_
  refine br_c (fun z => H0 (pc_cd_one.mp z)) (fun z => ⟨vp_in_nI (by omega) (by omega), nm_e ?_⟩)
  rcases pg_sf_out tv 6 0 g rfl (fun x hx => absurd hx (by omega)) with e | e
  · exact absurd (pc_cd_one.mpr e) z
  · obtain ⟨j, hj, hf, hn⟩ := e
    generalize hr : pg_sf C 6 0 g = r at hf hn H1
    have hm : pg_f r j ≠ j := by
      intro e
      rw [e, tv.1 j hj] at hn
      exact absurd hn (by simp)
    refine pw_first hj hf hm ?_
    refine ⟨vp_in_nI (by omega) (by omega), nm_e (nm_r (nI_1 n) ?_)⟩
    rw [nI_clamp (by omega)]
    have hs' : pt_str (n + 1) (pl_u s n r) (pl_u l n j) (upd a4 n (pc_cd r)) (upd a5 n (nI j)) := by
      refine ⟨by omega, fun k hk => ?_⟩
      by_cases e : k = n
      · rw [e, pk_us, pk_us, pl_us, pl_us]
        exact ⟨rfl, rfl, hj⟩
      · rw [pk_un e, pk_un e, pl_un _ _ _ e, pl_un _ _ _ e]
        exact hK.2.1.2 k (by omega)
    have hst : pg_st (n + 1) (pl_u s n r) (pl_u l n j) := by
      intro k hk
      by_cases e : k = n
      · rw [e, pl_us, pl_us]; exact hf
      · rw [pl_un _ _ _ e, pl_un _ _ _ e]
        exact hK.2.2.1 k (by omega)
    refine pw_find hs' (fun C' a2 a3 t' hok => ?_)
    refine H1 j C' a2 a3 _ _ ⟨t', hs', hst, hok, ?_⟩
    have mono : ∀ i, i < 6 → ∀ y, C i y ≠ none → C' i y ≠ none := by
      intro i hi y hy
      obtain ⟨a, ha, e⟩ := (pg_ok_sup (hK.2.2.2.1 i hi) y).mp hy
      exact (pg_ok_sup (hok i hi) y).mpr ⟨a, pl_mono r j i ha, e⟩
    have hlt : pg_tot C < pg_tot C' := by
      refine pg_tot_lt (fun i hi => ?_) hj ?_
      · rw [pg_row_cn, pg_row_cn]
        exact pg_cn_le (fun y _ hy => mono i hi y hy)
      · rw [pg_row_cn, pg_row_cn]
        exact pg_cn_lt (fun y _ hy => mono j hj y hy) (pg_lt r hj) (fun t => t hn) ((pg_ok_sup (hok j hj) _).mpr ⟨r, pl_new r j (Nat.le_refl j), rfl⟩)
    have := hK.2.2.2.2
    omega
end
section
/-! closedAt, closed -/
theorem pw_closedAt {post : Int32 → St1 → Prop} {c b w o ws : Int32} {a1 a2 a3 a4 a5 a6 a7 : Nat → Int32} {n : Nat} {s : Nat → pg_T} {l : Nat → Nat} {C : pg_C} {i y : Nat} {p : pg_T} {G : pg_T → Prop}
    (hK : pl_K n s l C a2 a3 a4 a5) (hG : ∀ a, pg_gen (pg_S n s l 0) a ↔ G a) (hi : i < 6) (hy : y < 6) (hp : C i y = some p)
    (H1 : (∀ k q, k < n → i ≤ l k → C i (pg_f (s k) y) = some q → pg_sf C 6 0 (pg_mul (pg_mul p (s k)) (pg_inv q)) = pg_one) → post 1 (c, b, nI n, w, o, ws, a1, a2, a3, a4, a5, a6, a7))
    (H0 : ∀ s l C a2 a3 a4 a5, pl_K (n + 1) s l C a2 a3 a4 a5 → (∀ a, pg_gen (pg_S (n + 1) s l 0) a ↔ G a) → post 0 (c, b, nI (n + 1), w, o, ws, a1, a2, a3, a4, a5, a6, a7)) :
    wpX_closedAt post (c, b, nI n, w, o, ws, a1, a2, a3, a4, a5, a6, a7) (nI i) (nI y) := by
  have h15 := pl_15 hK
  refine Exists.elim (pk_loop (σ := Unit) (fun f k _ => wX_closedAt_2 post (nI i) (nI y) f (nI k) c b (nI n) w o ws a1 a2 a3 a4 a5 a6 a7) (fun k' _ => ∀ k q, k < k' → k < n → i ≤ l k → C i (pg_f (s k) y) = some q → pg_sf C 6 0 (pg_mul (pg_mul p (s k)) (pg_inv q)) = pg_one) n 0 () (by omega) (fun k q hk => absurd hk (by omega)) ?_ ?_) (fun n hn => ⟨n, hn⟩)
  · intro f _ h
    exact pk_le n n (fun _ => H1 (fun k q hk => h k q hk hk)) (fun z => absurd z (by omega))
  · intro f k _ hk h hw
    obtain ⟨e4, e5, l6⟩ := hK.2.1.2 k hk
    refine pk_le n k (fun z => absurd z (by omega)) (fun _ => ⟨vp_in_nI (by omega) (by omega), ?_⟩)
    rw [nI_clamp (show k < 2 ^ 31 by omega), e5, e4, pt_ix, nI_clamp (show i * 6 + y < 2 ^ 31 by omega), ((hK.1 i y hi hy).2 p hp).1]
    refine pk_lt (l k) i (fun z => nm_r (nI_1 k) (hw () (fun k' q h1 h2 h3 h4 => ?_))) (fun hl => ⟨vp_in_nI (by omega) (by omega), ?_⟩)
    · by_cases e : k' = k
      · rw [e] at h3
        omega
      · exact h k' q (by omega) h2 h3 h4
    · have hz := pg_lt (s k) hy
      refine pw_digit hy ?_
      rw [pt_ix, nI_clamp (show i * 6 + pg_f (s k) y < 2 ^ 31 by omega)]
      refine ⟨vp_in_nI (by omega) (by omega), vp_in_nI (by omega) (by omega), ?_⟩
      refine pw_times ?_
      refine ⟨vp_in_nI (by omega) (by omega), ?_⟩
      cases e : C i (pg_f (s k) y) with
      | none => exact absurd e ((hK.2.2.2.1 i hi).2.2 y k hk hl (by rw [hp]; simp))
      | some q =>
        rw [((hK.1 i _ hi hz).2 q e).2]
        refine pw_times ?_
        refine pw_learn hK (fun z => br_t rfl (nm_r (nI_1 k) (hw () (fun k' q' h1 h2 h3 h4 => ?_)))) (fun j C' a2 a3 a4 a5 hK' => br_f (by decide) (H0 _ _ C' a2 a3 a4 a5 hK' (fun a => ?_)))
        · by_cases ek : k' = k
          · rw [ek, e] at h4
            rw [ek, ← Option.some.inj h4]
            exact z
          · exact h k' q' (by omega) h2 h3 h4
        · have gs := pg_gen_sub (pg_S n s l 0)
          have inC : ∀ i y p, i < 6 → C i y = some p → pg_gen (pg_S n s l 0) p := fun i y p hi hp => pg_S_le (Nat.zero_le i) ((hK.2.2.2.1 i hi).2.1 y p hp).2.2
          have mr : pg_gen (pg_S n s l 0) (pg_sf C 6 0 (pg_mul (pg_mul p (s k)) (pg_inv q))) :=
            (pg_sf_mem gs inC 6 0 _ rfl).mpr (gs.2.1 _ _ (gs.2.1 _ _ (inC i y p hi hp) (pg_gen_in ⟨k, hk, Nat.zero_le _, rfl⟩)) (gs.2.2 _ (inC i _ q hi e)))
          rw [← hG a]
          exact ⟨fun ha => pl_le gs (fun _ h => h) mr ha, fun ha => pl_mono _ _ 0 ha⟩
theorem pw_closed10 {post : Int32 → St1 → Prop} {J : Int32 → Int32 → Int32 → Int32 → Int32 → Int32 → Int32 → (Nat → Int32) → (Nat → Int32) → (Nat → Int32) → (Nat → Int32) → (Nat → Int32) → (Nat → Int32) → (Nat → Int32) → Prop} {c b w o ws : Int32} {a1 a2 a3 a4 a5 a6 a7 : Nat → Int32} {n : Nat} {s : Nat → pg_T} {l : Nat → Nat} {C : pg_C} {i : Nat} {G : pg_T → Prop}
    (hK : pl_K n s l C a2 a3 a4 a5) (hG : ∀ a, pg_gen (pg_S n s l 0) a ↔ G a) (hi : i < 6)
    (H1 : (∀ y k p q, k < n → i ≤ l k → C i y = some p → C i (pg_f (s k) y) = some q → pg_sf C 6 0 (pg_mul (pg_mul p (s k)) (pg_inv q)) = pg_one) → J (nI (i + 1)) c b (nI n) w o ws a1 a2 a3 a4 a5 a6 a7)
    (H0 : ∀ s l C a2 a3 a4 a5, pl_K (n + 1) s l C a2 a3 a4 a5 → (∀ a, pg_gen (pg_S (n + 1) s l 0) a ↔ G a) → post 0 (c, b, nI (n + 1), w, o, ws, a1, a2, a3, a4, a5, a6, a7)) :
    ∃ f, wX_closed_10 post J (nI i) f 0 c b (nI n) w o ws a1 a2 a3 a4 a5 a6 a7 := by
  have tv := pl_tv hK
  refine Exists.elim (pk_loop (σ := Unit) (fun f y _ => wX_closed_10 post J (nI i) f (nI y) c b (nI n) w o ws a1 a2 a3 a4 a5 a6 a7) (fun y' _ => ∀ y k p q, y < y' → k < n → i ≤ l k → C i y = some p → C i (pg_f (s k) y) = some q → pg_sf C 6 0 (pg_mul (pg_mul p (s k)) (pg_inv q)) = pg_one) 6 0 () (by omega) (fun y k p q hy => absurd hy (by omega)) ?_ ?_) (fun n hn => ⟨n, hn⟩)
  · intro f _ h
    exact pk_le 6 6 (fun _ => nm_r (nI_1 i) (H1 (fun y k p q hk hl hp hq => h y k p q (tv.2 i y p hi hp).1 hk hl hp hq))) (fun z => absurd z (by omega))
  · intro f y _ hy h hw
    refine pk_le 6 y (fun z => absurd z (by omega)) (fun _ => ?_)
    rw [pt_ix, nI_clamp (show i * 6 + y < 2 ^ 31 by omega)]
    refine ⟨vp_in_nI (by omega) (by omega), ?_⟩
    cases e : C i y with
    | none =>
      refine br_t ((hK.1 i y hi hy).1 e) (nm_r (nI_1 y) (hw () (fun y' k p q h1 h2 h3 h4 h5 => ?_)))
      by_cases ey : y' = y
      · rw [ey, e] at h4
        exact absurd h4 (by simp)
      · exact h y' k p q (by omega) h2 h3 h4 h5
    | some p =>
      refine br_f (by rw [((hK.1 i y hi hy).2 p e).1]; exact pc_cd_nn p) ?_
      refine pw_closedAt hK hG hi hy e (fun hc => br_f (by decide) (nm_r (nI_1 y) (hw () (fun y' k p' q h1 h2 h3 h4 h5 => ?_)))) (fun s l C a2 a3 a4 a5 hK' hG' => br_t rfl (H0 s l C a2 a3 a4 a5 hK' hG'))
      by_cases ey : y' = y
      · rw [ey] at h5
        rw [ey, e] at h4
        rw [← Option.some.inj h4]
        exact hc k q h2 h3 h5
      · exact h y' k p' q (by omega) h2 h3 h4 h5
theorem pw_closed {post : Int32 → St1 → Prop} {c b w o ws : Int32} {a1 a2 a3 a4 a5 a6 a7 : Nat → Int32} {n : Nat} {s : Nat → pg_T} {l : Nat → Nat} {C : pg_C} {G : pg_T → Prop}
    (hK : pl_K n s l C a2 a3 a4 a5) (hG : ∀ a, pg_gen (pg_S n s l 0) a ↔ G a)
    (H1 : pg_closed n s l C → post 1 (c, b, nI n, w, o, ws, a1, a2, a3, a4, a5, a6, a7))
    (H0 : ∀ s l C a2 a3 a4 a5, pl_K (n + 1) s l C a2 a3 a4 a5 → (∀ a, pg_gen (pg_S (n + 1) s l 0) a ↔ G a) → post 0 (c, b, nI (n + 1), w, o, ws, a1, a2, a3, a4, a5, a6, a7)) :
    wpX_closed post (c, b, nI n, w, o, ws, a1, a2, a3, a4, a5, a6, a7) := by
  refine Exists.elim (pk_loop (σ := Unit) (fun f i _ => wX_closed_2 post f (nI i) c b (nI n) w o ws a1 a2 a3 a4 a5 a6 a7) (fun i' _ => ∀ i y k p q, i < i' → k < n → i ≤ l k → C i y = some p → C i (pg_f (s k) y) = some q → pg_sf C 6 0 (pg_mul (pg_mul p (s k)) (pg_inv q)) = pg_one) 6 0 () (by omega) (fun i y k p q hy => absurd hy (by omega)) ?_ ?_) (fun n hn => ⟨n, hn⟩)
  · intro f _ h
    exact pk_le 6 6 (fun _ => H1 (fun i y k p q hi hk hl hp hq => h i y k p q hi hk hl hp hq)) (fun z => absurd z (by omega))
  · intro f i _ hi h hw
    refine pk_le 6 i (fun z => absurd z (by omega)) (fun _ => ?_)
    refine pw_closed10 hK hG hi (fun hc => hw () (fun i' y k p q h1 h2 h3 h4 h5 => ?_)) H0
    by_cases e : i' = i
    · rw [e] at h3 h4 h5
      exact hc y k p q h2 h3 h4 h5
    · exact h i' y k p q (by omega) h2 h3 h4 h5
/-! build -/
/-- the tables answer for the group G -/
def ps_bt (G : pg_T → Prop) (a2 a3 : Nat → Int32) : Prop := ∃ C, pt_tab C a2 a3 ∧ pg_tv C ∧ ∀ g, pg_in C 6 0 g ↔ G g
/-- the group of the first c of gs -/
def ps_G (c : Nat) (gs : Nat → pg_T) : pg_T → Prop := pg_gen (fun a => ∃ k, k < c ∧ a = gs k)
theorem pw_build48 {post : St1 → Prop} {c b w o ws : Int32} {a1 a2 a3 a4 a5 a6 a7 : Nat → Int32} {n : Nat} {s : Nat → pg_T} {l : Nat → Nat} {C : pg_C} {G : pg_T → Prop}
    (hK : pl_K n s l C a2 a3 a4 a5) (hG : ∀ a, pg_gen (pg_S n s l 0) a ↔ G a)
    (H : ∀ sc a2 a3 a4 a5, ps_bt G a2 a3 → post (c, 1, sc, w, o, ws, a1, a2, a3, a4, a5, a6, a7)) :
    ∃ f, wX_build_48 post f 0 0 c b (nI n) w o ws a1 a2 a3 a4 a5 a6 a7 := by
  refine Exists.elim (pk_loop (σ := Int32 × Nat × (Nat → Int32) × (Nat → Int32) × (Nat → Int32) × (Nat → Int32)) (fun f r u => wX_build_48 post f u.1 (nI r) c b (nI u.2.1) w o ws a1 u.2.2.1 u.2.2.2.1 u.2.2.2.2.1 u.2.2.2.2.2 a6 a7)
    (fun r u => ∃ s l C, pl_K u.2.1 s l C u.2.2.1 u.2.2.2.1 u.2.2.2.2.1 u.2.2.2.2.2 ∧ (∀ a, pg_gen (pg_S u.2.1 s l 0) a ↔ G a) ∧ ((u.1 = 0 ∧ r ≤ u.2.1) ∨ (u.1 = 1 ∧ pg_closed u.2.1 s l C))) 17 0 (0, n, a2, a3, a4, a5) (by omega) ⟨s, l, C, hK, hG, Or.inl ⟨rfl, Nat.zero_le _⟩⟩ ?_ ?_) (fun n hn => ⟨n, hn⟩)
  · intro f u hu
    obtain ⟨d, n, a2, a3, a4, a5⟩ := u
    obtain ⟨s, l, C, hK, hG, hd⟩ := hu
    dsimp only at hK hG hd ⊢
    rcases hd with hd | hd
    · have := pl_15 hK
      omega
    · refine pk_le 40 17 (fun z => absurd z (by omega)) (fun _ => br_f (by rw [hd.1]; decide) (H _ _ _ _ _ ⟨C, hK.1, pl_tv hK, fun g => ?_⟩))
      rw [pg_all hK.2.2.1 hK.2.2.2.1 hd.2 g, hG]
  · intro f r u hr hu hw
    obtain ⟨d, n, a2, a3, a4, a5⟩ := u
    obtain ⟨s, l, C, hK, hG, hd⟩ := hu
    dsimp only at hK hG hd ⊢
    refine pk_le 40 r (fun z => absurd z (by omega)) (fun _ => ?_)
    rcases hd with hd | hd
    · refine br_t hd.1 ?_
      refine pw_closed hK hG (fun hc => nm_r (nI_1 r) (hw (1, n, a2, a3, a4, a5) ⟨s, l, C, hK, hG, Or.inr ⟨rfl, hc⟩⟩)) (fun s l C a2 a3 a4 a5 hK' hG' => nm_r (nI_1 r) (hw (0, n + 1, a2, a3, a4, a5) ⟨s, l, C, hK', hG', Or.inl ⟨rfl, ?_⟩⟩))
      have := hd.2
      dsimp only
      omega
    · refine br_f (by rw [hd.1]; decide) (H _ _ _ _ _ ⟨C, hK.1, pl_tv hK, fun g => ?_⟩)
      rw [pg_all hK.2.2.1 hK.2.2.2.1 hd.2 g, hG]
theorem pw_build19 {post : St1 → Prop} {b w o ws : Int32} {a1 a2 a3 a4 a5 a6 a7 : Nat → Int32} {s : Nat → pg_T} {l : Nat → Nat} {C : pg_C} {c : Nat} {gs : Nat → pg_T} (hc : c ≤ 5) (h1 : ∀ k, k < c → a1 k = pc_cd (gs k))
    (hK : pl_K 0 s l C a2 a3 a4 a5)
    (H : ∀ sc a2 a3 a4 a5, ps_bt (ps_G c gs) a2 a3 → post (nI c, 1, sc, w, o, ws, a1, a2, a3, a4, a5, a6, a7)) :
    ∃ f, wX_build_19 post f 0 (nI c) b (nI 0) w o ws a1 a2 a3 a4 a5 a6 a7 := by
  have sG : pg_sub (ps_G c gs) := pg_gen_sub _
  refine Exists.elim (pk_loop (σ := Nat × (Nat → Int32) × (Nat → Int32) × (Nat → Int32) × (Nat → Int32)) (fun f k u => wX_build_19 post f (nI k) (nI c) b (nI u.1) w o ws a1 u.2.1 u.2.2.1 u.2.2.2.1 u.2.2.2.2 a6 a7)
    (fun k u => ∃ s l C, pl_K u.1 s l C u.2.1 u.2.2.1 u.2.2.2.1 u.2.2.2.2 ∧ (∀ a, pg_gen (pg_S u.1 s l 0) a → ps_G c gs a) ∧ (∀ j, j < k → pg_gen (pg_S u.1 s l 0) (gs j))) c 0 (0, a2, a3, a4, a5) (by omega) ⟨s, l, C, hK, fun a ha => ?_, fun j hj => absurd hj (by omega)⟩ ?_ ?_) (fun n hn => ⟨n, hn⟩)
  · exact pg_gen_le sG (fun b hb => by obtain ⟨k, hk, _⟩ := hb; omega) ha
  · intro f u hu
    obtain ⟨n, a2, a3, a4, a5⟩ := u
    obtain ⟨s, l, C, hK, hG, hg⟩ := hu
    dsimp only at hK hG hg ⊢
    refine pk_le c c (fun _ => pw_build48 hK (fun a => ⟨hG a, fun ha => ?_⟩) H) (fun z => absurd z (by omega))
    exact pg_gen_le (pg_gen_sub _) (fun b hb => by obtain ⟨k, hk, e⟩ := hb; rw [e]; exact hg k hk) ha
  · intro f k u hk hu hw
    obtain ⟨n, a2, a3, a4, a5⟩ := u
    obtain ⟨s, l, C, hK, hG, hg⟩ := hu
    dsimp only at hK hG hg ⊢
    refine pk_le c k (fun z => absurd z (by omega)) (fun _ => ⟨vp_in_nI (by omega) (by omega), ?_⟩)
    rw [nI_clamp (show k < 2 ^ 31 by omega), h1 k hk]
    have gsb := pg_gen_sub (pg_S n s l 0)
    have inC : ∀ i y p, i < 6 → C i y = some p → pg_gen (pg_S n s l 0) p := fun i y p hi hp => pg_S_le (Nat.zero_le i) ((hK.2.2.2.1 i hi).2.1 y p hp).2.2
    refine pw_learn hK (fun z => nm_r (nI_1 k) (hw (n, a2, a3, a4, a5) ⟨s, l, C, hK, hG, fun j hj => ?_⟩)) (fun j C' a2 a3 a4 a5 hK' => nm_r (nI_1 k) (hw (n + 1, a2, a3, a4, a5) ⟨_, _, C', hK', fun a ha => ?_, fun j' hj => ?_⟩))
    · by_cases e : j = k
      · rw [e]
        refine (pg_sf_mem gsb inC 6 0 _ rfl).mp ?_
        rw [z]
        exact gsb.1
      · exact hg j (by omega)
    · refine pl_le sG hG ?_ ha
      exact (pg_sf_mem sG (fun i y p hi hp => hG _ (inC i y p hi hp)) 6 0 _ rfl).mpr (pg_gen_in ⟨k, hk, rfl⟩)
    · by_cases e : j' = k
      · rw [e]
        exact (pg_sf_mem (pg_gen_sub _) (fun i y p hi hp => pl_mono _ _ 0 (inC i y p hi hp)) 6 0 _ rfl).mp (pl_new _ j (Nat.zero_le j))
      · exact pl_mono _ _ 0 (hg j' (by omega))
theorem pw_build {post : St1 → Prop} {b sc w o ws : Int32} {a1 a2 a3 a4 a5 a6 a7 : Nat → Int32} {c : Nat} {gs : Nat → pg_T} (hc : c ≤ 5) (h1 : ∀ k, k < c → a1 k = pc_cd (gs k)) (hb : b = 0 ∨ ps_bt (ps_G c gs) a2 a3)
    (H : ∀ b sc a2 a3 a4 a5, ps_bt (ps_G c gs) a2 a3 → post (nI c, b, sc, w, o, ws, a1, a2, a3, a4, a5, a6, a7)) :
    wpX_build post (nI c, b, sc, w, o, ws, a1, a2, a3, a4, a5, a6, a7) := by
  unfold wpX_build
  refine br_c (fun z => ?_) (fun z => ?_)
  · have hs : pt_str 0 (fun _ => pg_one) (fun _ => 0) a4 a5 := ⟨by omega, fun k hk => absurd hk (by omega)⟩
    refine pw_find (n := 0) hs (fun C a2 a3 t hok => ?_)
    have hst : pg_st 0 (fun _ => pg_one) (fun _ => 0) := fun k hk => absurd hk (by omega)
    refine pw_build19 hc h1 ⟨t, hs, hst, hok, ?_⟩ (fun sc a2 a3 a4 a5 h => H 1 sc a2 a3 a4 a5 h)
    have := pg_tot_ge (pg_ok_tv hst hok)
    omega
  · rcases hb with hb | hb
    · exact absurd hb z
    · exact H _ _ _ _ _ _ hb
end
section
/-! the state as the law sees it: c generators gs, the tables built or not -/
def ps_ok (c : Nat) (gs : Nat → pg_T) (u : St1) : Prop := ∃ b sc w o ws a1 a2 a3 a4 a5 a6 a7, u = (nI c, b, sc, w, o, ws, a1, a2, a3, a4, a5, a6, a7) ∧ c ≤ 5 ∧ (∀ k, k < c → a1 k = pc_cd (gs k)) ∧ (b = 0 ∨ ps_bt (ps_G c gs) a2 a3)
theorem ps_mk {c : Nat} {gs : Nat → pg_T} {b sc w o ws : Int32} {a1 a2 a3 a4 a5 a6 a7 : Nat → Int32} (hc : c ≤ 5) (h1 : ∀ k, k < c → a1 k = pc_cd (gs k)) (hb : b = 0 ∨ ps_bt (ps_G c gs) a2 a3) : ps_ok c gs (nI c, b, sc, w, o, ws, a1, a2, a3, a4, a5, a6, a7) :=
  ⟨b, sc, w, o, ws, a1, a2, a3, a4, a5, a6, a7, rfl, hc, h1, hb⟩
theorem pw_osz {post : Int32 → Prop} {C : pg_C} {c b sc w o ws : Int32} {a1 a2 a3 a4 a5 a6 a7 : Nat → Int32} (t : pt_tab C a2 a3) {i : Nat} (hi : i < 6) (hp : post (nI (pg_row C i).length)) :
    wpX_orbitSize post (c, b, sc, w, o, ws, a1, a2, a3, a4, a5, a6, a7) (nI i) := by
  refine Exists.elim (pk_loop (σ := Unit) (fun n y _ => wX_orbitSize_4 post (nI i) c b sc w o ws a1 a2 a3 a4 a5 a6 a7 n (nI ((List.range y).filterMap (C i)).length) (nI y)) (fun _ _ => True) 6 0 () (by omega) trivial ?_ ?_) (fun n hn => ⟨n, hn⟩)
  · intro n _ _
    exact pk_le 6 6 (fun _ => hp) (fun z => absurd z (by omega))
  · intro n y _ hy _ hw
    have hw' := hw () trivial
    rw [List.range_succ, List.filterMap_append, List.length_append] at hw'
    refine pk_le 6 y (fun z => absurd z (by omega)) (fun _ => ?_)
    rw [pt_ix, nI_clamp (show i * 6 + y < 2 ^ 31 by omega)]
    refine ⟨vp_in_nI (by omega) (by omega), ?_⟩
    cases e : C i y with
    | none =>
      rw [List.filterMap_cons_none e] at hw'
      exact br_t ((t i y hi hy).1 e) (nm_r (nI_1 y) hw')
    | some p =>
      rw [List.filterMap_cons_some e] at hw'
      exact br_f (by rw [((t i y hi hy).2 p e).1]; exact pc_cd_nn p) (nm_r (nI_1 _) (nm_r (nI_1 y) hw'))
theorem pw_order1 {post : Int32 → St1 → Prop} {b sc w o ws : Int32} {a1 a2 a3 a4 a5 a6 a7 : Nat → Int32} {c : Nat} {gs : Nat → pg_T} (hc : c ≤ 5) (h1 : ∀ k, k < c → a1 k = pc_cd (gs k)) (hb : b = 0 ∨ ps_bt (ps_G c gs) a2 a3)
    (H : ∀ b sc a2 a3 a4 a5 C, pt_tab C a2 a3 → pg_tv C → (∀ g, pg_in C 6 0 g ↔ ps_G c gs g) → post (nI (pg_pr C 6 0)) (nI c, b, sc, w, o, ws, a1, a2, a3, a4, a5, a6, a7)) :
    wpX_order post (nI c, b, sc, w, o, ws, a1, a2, a3, a4, a5, a6, a7) := by
  unfold wpX_order
  refine pw_build hc h1 hb (fun b sc a2 a3 a4 a5 ht => ?_)
  obtain ⟨C, t, tv, hG⟩ := ht
  have hp := H b sc a2 a3 a4 a5 C t tv hG
  refine Exists.elim (pk_loop (σ := Nat) (fun n i m => wX_order_8 post (nI c) b sc w o ws a1 a2 a3 a4 a5 a6 a7 n (nI m) (nI i)) (fun i m => m * pg_pr C (6 - i) i = pg_pr C 6 0) 6 0 1 (by omega) (Nat.one_mul _) ?_ ?_) (fun n hn => ⟨n, hn⟩)
  · intro n m hm
    rw [show pg_pr C (6 - 6) 6 = 1 from rfl, Nat.mul_one] at hm
    rw [← hm] at hp
    exact pk_le 6 6 (fun _ => hp) (fun z => absurd z (by omega))
  · intro n i m hi hm hw
    refine pk_le 6 i (fun z => absurd z (by omega)) (fun _ => ?_)
    refine pw_osz t hi ?_
    refine nm_r (pk_mul m _) (nm_r (nI_1 i) (hw _ ?_))
    rw [show 6 - i = (6 - (i + 1)) + 1 by omega, pg_pr, ← Nat.mul_assoc] at hm
    exact hm
theorem pw_order {post : Int32 → St1 → Prop} {u : St1} {c : Nat} {gs : Nat → pg_T} (h : ps_ok c gs u) (H : ∀ N u', ps_ok c gs u' → pg_hc (ps_G c gs) N → N ≤ 720 → post (nI N) u') : wpX_order post u := by
  obtain ⟨b, sc, w, o, ws, a1, a2, a3, a4, a5, a6, a7, rfl, hc, h1, hb⟩ := h
  exact pw_order1 hc h1 hb (fun b sc a2 a3 a4 a5 C t tv hG => H _ _ (ps_mk hc h1 (Or.inr ⟨C, t, tv, hG⟩)) (pg_hc_congr hG (pg_in_hc tv)) (pg_pr_720 tv))
theorem pw_has {post : Int32 → St1 → Prop} {u : St1} {c : Nat} {gs : Nat → pg_T} (h : ps_ok c gs u) {p : pg_T} (hp : ps_G c gs p) (H : ∀ u', ps_ok c gs u' → post 1 u') : wpX_has post u (pc_oc p) := by
  obtain ⟨b, sc, w, o, ws, a1, a2, a3, a4, a5, a6, a7, rfl, hc, h1, hb⟩ := h
  unfold wpX_has
  refine pw_bad (fun _ _ => br_t rfl ?_) (fun z => absurd rfl (z p))
  refine pw_build hc h1 hb (fun b sc a2 a3 a4 a5 ht => ?_)
  refine pw_from ?_
  obtain ⟨C, t, tv, hG⟩ := ht
  refine pw_sift t ?_
  refine br_t (pc_cd_one.mpr ?_) (H _ (ps_mk hc h1 (Or.inr ⟨C, t, tv, hG⟩)))
  exact (pg_sf_in tv 6 0 p rfl (fun x hx => absurd hx (by omega))).mpr ((hG p).mpr hp)
/-! the n-th element -/
theorem pn_at (f : Nat → Option pg_T) {y : Nat} {q : pg_T} (e : f y = some q) : ∀ m, y < m → ((List.range m).filterMap f)[((List.range y).filterMap f).length]? = some q := by
  intro m
  induction m with
  | zero => intro h; omega
  | succ m ih =>
    intro h
    rw [List.range_succ, List.filterMap_append]
    by_cases em : y = m
    · rw [← em, List.getElem?_append_right (Nat.le_refl _), Nat.sub_self, List.filterMap_cons_some e]
      rfl
    · have h1 := ih (by omega)
      have h2 := (List.getElem?_eq_some_iff.mp h1).1
      rw [List.getElem?_append_left h2]
      exact h1
theorem pw_nth {post : Int32 → Prop} {C : pg_C} {c b sc w o ws : Int32} {a1 a2 a3 a4 a5 a6 a7 : Nat → Int32} (t : pt_tab C a2 a3) (tv : pg_tv C) {i v : Nat} {p : pg_T} (hi : i < 6) (hv : (pg_row C i)[v]? = some p) (hp : post (pc_cd p)) :
    wpX_nthCarrier post (c, b, sc, w, o, ws, a1, a2, a3, a4, a5, a6, a7) (nI i) (nI v) := by
  have hl := (List.getElem?_eq_some_iff.mp hv).1
  have hl6 := pg_row_le tv hi
  refine Exists.elim (pk_loop (σ := Nat) (fun n y d => wX_nthCarrier_5 post (nI i) c b sc w o ws a1 a2 a3 a4 a5 a6 a7 n (nI d) (nI y)) (fun y d => ((List.range y).filterMap (C i)).length + d = v) 6 0 v (by omega) (by rw [List.range_zero, List.filterMap_nil, List.length_nil, Nat.zero_add]) ?_ ?_) (fun n hn => ⟨n, hn⟩)
  · intro n d hd
    rw [pg_row] at hl
    omega
  · intro n y d hy hd hw
    refine pk_le 6 y (fun z => absurd z (by omega)) (fun _ => ?_)
    rw [pt_ix, nI_clamp (show i * 6 + y < 2 ^ 31 by omega)]
    refine ⟨vp_in_nI (by omega) (by omega), ?_⟩
    cases e : C i y with
    | none =>
      refine br_t ((t i y hi hy).1 e) (nm_r (nI_1 y) (hw d ?_))
      rw [List.range_succ, List.filterMap_append, List.length_append, List.filterMap_cons_none e]
      exact hd
    | some q =>
      have e2 := ((t i y hi hy).2 q e).1
      refine br_f (by rw [e2]; exact pc_cd_nn q) (pk_eq d 0 (fun z => ⟨vp_in_nI (by omega) (by omega), ?_⟩) (fun z => nm_r (sb_m1 (by omega)) (nm_r (nI_1 y) (hw _ ?_))))
      · have := pn_at (C i) e 6 hy
        rw [show ((List.range y).filterMap (C i)).length = v by omega] at this
        rw [pg_row, this] at hv
        rw [e2, Option.some.inj hv]
        exact hp
      · rw [List.range_succ, List.filterMap_append, List.length_append, List.filterMap_cons_some e]
        show _ + 1 + (d - 1) = v
        omega
theorem pw_elem {post : Int32 → Prop} {C : pg_C} {c b sc w o ws : Int32} {a1 a2 a3 a4 a5 a6 a7 : Nat → Int32} (t : pt_tab C a2 a3) (tv : pg_tv C) {k : Nat} (hk : k < 2 ^ 31) (hp : post (pc_cd (pg_el C 6 0 k))) :
    wpX_element post (c, b, sc, w, o, ws, a1, a2, a3, a4, a5, a6, a7) (nI k) := by
  refine Exists.elim (pk_loop (σ := pg_T × Nat) (fun n i u => wX_element_8 post c b sc w o ws a1 a2 a3 a4 a5 a6 a7 n (pc_cd u.1) (nI u.2) (nI i)) (fun i u => u.2 < 2 ^ 31 ∧ pg_mul (pg_el C (6 - i) i u.2) u.1 = pg_el C 6 0 k) 6 0 (pg_one, k) (by omega) ⟨hk, pg_mul_one _⟩ ?_ ?_) (fun n hn => ⟨n, ?_⟩)
  · intro n u hu
    obtain ⟨g, r⟩ := u
    obtain ⟨_, hu⟩ := hu
    rw [show pg_el C (6 - 6) 6 r = pg_one from rfl, pg_one_mul] at hu
    rw [← hu] at hp
    exact pk_le 6 6 (fun _ => hp) (fun z => absurd z (by omega))
  · intro n i u hi hu hw
    obtain ⟨g, r⟩ := u
    obtain ⟨hr, hu⟩ := hu
    have hpos := pg_row_pos tv hi
    have hl6 := pg_row_le tv hi
    obtain ⟨p, e, _⟩ := pg_nth tv hi r
    refine pk_le 6 i (fun z => absurd z (by omega)) (fun _ => ?_)
    refine pw_osz t hi ?_
    refine br_f (nI_nle hpos (by omega)) ⟨nI_ne0 hpos (by omega), ?_⟩
    rw [pk_rem hr hpos (by omega)]
    unfold wX_element_36
    refine br_f (nI_nle hpos (by omega)) ⟨nI_ne0 hpos (by omega), ?_⟩
    rw [pk_div hr hpos (by omega)]
    unfold wX_element_51
    refine pw_nth t tv hi e ?_
    refine pw_times ?_
    refine nm_r (nI_1 i) (hw (pg_mul p g, r / (pg_row C i).length) ⟨Nat.lt_of_le_of_lt (Nat.div_le_self _ _) hr, ?_⟩)
    rw [show 6 - i = (6 - (i + 1)) + 1 by omega, pg_el, e, Option.getD_some, pg_assoc] at hu
    exact hu
  · have hn' := hn
    rw [pc_one] at hn'
    exact hn'
theorem pw_carrier {post : Int32 → St1 → Prop} {u : St1} {c : Nat} {gs : Nat → pg_T} (h : ps_ok c gs u) {x y : Nat} (hx : x < 6) (hy : y < 6)
    (H4 : (∀ g, ps_G c gs g → pg_f g x ≠ y) → ∀ u', ps_ok c gs u' → post (-4) u')
    (H1 : ∀ g, ps_G c gs g → pg_f g x = y → ∀ u', ps_ok c gs u' → post (pc_oc g) u') : wpX_carrier post u (nI x) (nI y) := by
  obtain ⟨b, sc, w, o, ws, a1, a2, a3, a4, a5, a6, a7, rfl, hc, h1, hb⟩ := h
  unfold wpX_carrier
  refine br_f (nI_pos (by omega)) (br_f (nI_ge (b := 6) hx (by omega)) (br_f (nI_pos (by omega)) (br_t (nI_lt (b := 6) hy (by omega)) ?_)))
  refine pw_order1 hc h1 hb (fun b sc a2 a3 a4 a5 C t tv hG => ?_)
  have ok' : ps_ok c gs (nI c, b, sc, w, o, ws, a1, a2, a3, a4, a5, a6, a7) := ps_mk hc h1 (Or.inr ⟨C, t, tv, hG⟩)
  have hN := pg_pr_720 tv
  refine Exists.elim (pk_loop (σ := Int32) (fun n k v => wX_carrier_34 post (nI x) (nI y) (nI (pg_pr C 6 0)) (nI c) b sc w o ws a1 a2 a3 a4 a5 a6 a7 n v (nI k)) (fun k v => (v = -4 ∧ ∀ j, j < k → pg_f (pg_el C 6 0 j) x ≠ y) ∨ (∃ g, ps_G c gs g ∧ pg_f g x = y ∧ v = pc_oc g)) (pg_pr C 6 0) 0 (-4) (by omega) (Or.inl ⟨rfl, fun j hj => absurd hj (by omega)⟩) ?_ ?_) (fun n hn => ⟨n, hn⟩)
  · intro n v hv
    refine pk_le (pg_pr C 6 0) (pg_pr C 6 0) (fun _ => ?_) (fun z => absurd z (by omega))
    rcases hv with hv | hv
    · rw [hv.1]
      refine H4 (fun g hg => ?_) _ ok'
      obtain ⟨j, hj, e⟩ := pg_el_surj tv 6 0 g rfl ((pg_els_mem tv 6 0 g rfl).mpr ((hG g).mpr hg))
      rw [← e]
      exact hv.2 j hj
    · obtain ⟨g, hg, e, rfl⟩ := hv
      exact H1 g hg e _ ok'
  · intro n k v hk hv hw
    have hg : ps_G c gs (pg_el C 6 0 k) := (hG _).mp (pg_el_in tv 6 0 k rfl)
    have hlt := pg_lt (pg_el C 6 0 k) hx
    refine pk_le (pg_pr C 6 0) k (fun z => absurd z (by omega)) (fun _ => pk_le 720 k (fun z => absurd z (by omega)) (fun _ => ?_))
    refine pw_elem t tv (by omega) ?_
    refine pw_digit hx ?_
    refine pk_eq (pg_f (pg_el C 6 0 k) x) y (fun e => ?_) (fun e => nm_r (nI_1 k) (hw v ?_))
    · refine pw_toOut ?_
      refine br_c (fun _ => nm_r (nI_1 k) (hw _ (Or.inr ⟨_, hg, e, rfl⟩))) (fun z => br_c (fun _ => nm_r (nI_1 k) (hw v ?_)) (fun _ => nm_r (nI_1 k) (hw _ (Or.inr ⟨_, hg, e, rfl⟩))))
      rcases hv with hv | hv
      · rw [hv.1] at z
        exact absurd (by decide) z
      · exact Or.inr hv
    · rcases hv with hv | hv
      · refine Or.inl ⟨hv.1, fun j hj => ?_⟩
        by_cases ej : j = k
        · rw [ej]; exact e
        · exact hv.2 j (by omega)
      · exact Or.inr hv
end
section
/-! orbits -/
/-- y can be reached from x -/
def po_R (G : pg_T → Prop) (x y : Nat) : Prop := ∃ g, G g ∧ pg_f g x = y
theorem po_refl {G : pg_T → Prop} (hG : pg_sub G) (x : Nat) : po_R G x x := ⟨pg_one, hG.1, rfl⟩
theorem po_symm {G : pg_T → Prop} (hG : pg_sub G) {x y : Nat} (h : po_R G x y) : po_R G y x := by
  obtain ⟨g, hg, rfl⟩ := h
  exact ⟨pg_inv g, hG.2.2 g hg, pg_gf g x⟩
theorem po_trans {G : pg_T → Prop} (hG : pg_sub G) {x y z : Nat} (h : po_R G x y) (h' : po_R G y z) : po_R G x z := by
  obtain ⟨g, hg, rfl⟩ := h
  obtain ⟨k, hk, rfl⟩ := h'
  exact ⟨pg_mul g k, hG.2.1 g k hg hk, rfl⟩
theorem po_lt {G : pg_T → Prop} {x y : Nat} (hx : x < 6) (h : po_R G x y) : y < 6 := by
  obtain ⟨g, hg, rfl⟩ := h
  exact pg_lt g hx
/-- a set that holds x and is closed under the generators holds the orbit -/
theorem po_full {c : Nat} {gs : Nat → pg_T} {S : Nat → Prop} (h6 : ∀ y, S y → y < 6) (hS : ∀ y k, S y → k < c → S (pg_f (gs k) y)) {x y : Nat} (hx : S x) (h : po_R (ps_G c gs) x y) : S y := by
  obtain ⟨g, hg, rfl⟩ := h
  have key : (∀ y, S y → S (pg_f g y)) ∧ (∀ y, S y → S (pg_g g y)) := by
    refine pg_gen_le (H := fun g => (∀ y, S y → S (pg_f g y)) ∧ (∀ y, S y → S (pg_g g y))) ⟨⟨fun _ h => h, fun _ h => h⟩, ?_, ?_⟩ ?_ hg
    · intro a b ha hb
      exact ⟨fun y hy => hb.1 _ (ha.1 y hy), fun y hy => ha.2 _ (hb.2 y hy)⟩
    · intro a ha
      exact ⟨ha.2, ha.1⟩
    · intro b hb
      obtain ⟨k, hk, rfl⟩ := hb
      exact ⟨fun y hy => hS y k hy hk, fun y hy => pg_back' S (gs k) h6 (fun y hy => hS y k hy hk) hy⟩
  exact key.1 x hx
theorem pw_image {post : Int32 → Prop} {u : St1} {m : Nat} {p : pg_T} (hm : m < 64) (H : ∀ m', m' < 64 → (∀ y, y < 6 → (m'.testBit y = true ↔ ∃ x, x < 6 ∧ m.testBit x = true ∧ pg_f p x = y)) → post (nI m')) : wpX_imageOf post u (nI m) (pc_cd p) := by
  obtain ⟨c, b, sc, w, o, ws, a1, a2, a3, a4, a5, a6, a7⟩ := u
  refine Exists.elim (pk_loop (σ := Nat) (fun n i v => wX_imageOf_5 post (nI m) (pc_cd p) c b sc w o ws a1 a2 a3 a4 a5 a6 a7 n (nI v) (nI i)) (fun i v => v < 64 ∧ ∀ y, y < 6 → (v.testBit y = true ↔ ∃ x, x < i ∧ m.testBit x = true ∧ pg_f p x = y)) 6 0 0 (by omega) ⟨by omega, fun y _ => ?_⟩ ?_ ?_) (fun n hn => ⟨n, hn⟩)
  · rw [Nat.zero_testBit]
    exact ⟨fun t => absurd t (by decide), fun t => by obtain ⟨x, hx, _⟩ := t; omega⟩
  · intro n v hv
    exact pk_le 6 6 (fun _ => H v hv.1 hv.2) (fun z => absurd z (by omega))
  · intro n i v hi hv hw
    refine pk_le 6 i (fun z => absurd z (by omega)) (fun _ => ek_if (pc_bit1 hm hi) (fun hb => ?_) (fun hb => nm_r (nI_1 i) (hw v ⟨hv.1, fun y hy => ?_⟩)))
    · have hpi := pg_lt p hi
      refine pw_digit hi ?_
      refine nm_r (e' := nI (v ||| 2 ^ pg_f p i)) (by rw [pc_shl1 _ hpi, pc_or]) (nm_r (nI_1 i) (hw _ ⟨pc_or64 hv.1 (pc_p64 hpi), fun y hy => ?_⟩))
      rw [pc_addbit, hv.2 y hy]
      constructor
      · intro t
        rcases t with t | t
        · obtain ⟨x, hx, e⟩ := t
          exact ⟨x, by omega, e⟩
        · exact ⟨i, by omega, hb, t⟩
      · intro t
        obtain ⟨x, hx, e1, e2⟩ := t
        by_cases ex : x = i
        · rw [ex] at e2
          exact Or.inr e2
        · exact Or.inl ⟨x, by omega, e1, e2⟩
    · rw [hv.2 y hy]
      constructor
      · intro t
        obtain ⟨x, hx, e⟩ := t
        exact ⟨x, by omega, e⟩
      · intro t
        obtain ⟨x, hx, e1, e2⟩ := t
        by_cases ex : x = i
        · rw [ex] at e1
          exact absurd e1 hb
        · exact ⟨x, by omega, e1, e2⟩
theorem pw_orb27 {post : Int32 → Prop} {J : Int32 → Int32 → Prop} {b sc w o ws : Int32} {a1 a2 a3 a4 a5 a6 a7 : Nat → Int32} {c : Nat} {gs : Nat → pg_T} (hc : c ≤ 5) (h1 : ∀ k, k < c → a1 k = pc_cd (gs k)) {r m0 x : Nat} (hm : m0 < 64) (hR : ∀ y, y < 6 → m0.testBit y = true → po_R (ps_G c gs) x y)
    (H : ∀ m, m < 64 → (∀ y, y < 6 → m0.testBit y = true → m.testBit y = true) → (∀ y, y < 6 → m.testBit y = true → po_R (ps_G c gs) x y) → (∀ y k, y < 6 → k < c → m0.testBit y = true → m.testBit (pg_f (gs k) y) = true) → J (nI m) (nI (r + 1))) :
    ∃ f, wX_orbit_27 post J (nI r) (nI c) b sc w o ws a1 a2 a3 a4 a5 a6 a7 f (nI m0) 0 := by
  have sG : pg_sub (ps_G c gs) := pg_gen_sub _
  refine Exists.elim (pk_loop (σ := Nat) (fun f k m => wX_orbit_27 post J (nI r) (nI c) b sc w o ws a1 a2 a3 a4 a5 a6 a7 f (nI m) (nI k)) (fun k' m => m < 64 ∧ (∀ y, y < 6 → m0.testBit y = true → m.testBit y = true) ∧ (∀ y, y < 6 → m.testBit y = true → po_R (ps_G c gs) x y) ∧ (∀ y k, y < 6 → k < k' → m0.testBit y = true → m.testBit (pg_f (gs k) y) = true)) c 0 m0 (by omega) ⟨hm, fun _ _ h => h, hR, fun y k _ hk => absurd hk (by omega)⟩ ?_ ?_) (fun n hn => ⟨n, hn⟩)
  · intro f m hI
    exact pk_le c c (fun _ => nm_r (nI_1 r) (H m hI.1 hI.2.1 hI.2.2.1 hI.2.2.2)) (fun z => absurd z (by omega))
  · intro f k m hk hI hw
    refine pk_le c k (fun z => absurd z (by omega)) (fun _ => ⟨vp_in_nI (by omega) (by omega), ?_⟩)
    rw [nI_clamp (show k < 2 ^ 31 by omega), h1 k hk]
    refine pw_image hI.1 (fun m' hm' hi => ?_)
    refine nm_r (pc_or m m') (nm_r (nI_1 k) (hw _ ⟨pc_or64 hI.1 hm', fun y hy h => ?_, fun y hy h => ?_, fun y k' hy hk' h => ?_⟩))
    · rw [Nat.testBit_or, hI.2.1 y hy h, Bool.true_or]
    · rw [Nat.testBit_or, Bool.or_eq_true] at h
      rcases h with h | h
      · exact hI.2.2.1 y hy h
      · obtain ⟨z, hz, h2, rfl⟩ := (hi y hy).mp h
        exact po_trans sG (hI.2.2.1 z hz h2) ⟨gs k, pg_gen_in ⟨k, hk, rfl⟩, rfl⟩
    · rw [Nat.testBit_or, Bool.or_eq_true]
      by_cases e : k' = k
      · rw [e]
        exact Or.inr ((hi _ (pg_lt _ hy)).mpr ⟨y, hy, hI.2.1 y hy h, rfl⟩)
      · exact Or.inl (hI.2.2.2 y k' hy (by omega) h)
theorem pw_orbit {post : Int32 → Prop} {b sc w o ws : Int32} {a1 a2 a3 a4 a5 a6 a7 : Nat → Int32} {c : Nat} {gs : Nat → pg_T} (hc : c ≤ 5) (h1 : ∀ k, k < c → a1 k = pc_cd (gs k)) {x : Nat} (hx : x < 6)
    (H : ∀ m, m < 64 → (∀ y, y < 6 → (m.testBit y = true ↔ po_R (ps_G c gs) x y)) → post (nI m)) :
    wpX_orbit post (nI c, b, sc, w, o, ws, a1, a2, a3, a4, a5, a6, a7) (nI x) := by
  have sG : pg_sub (ps_G c gs) := pg_gen_sub _
  refine br_f (nI_pos (by omega)) (br_t (nI_lt (b := 6) hx (by omega)) (nm_r (pc_shl1 x hx) ?_))
  have hbx : ∀ y, (2 ^ x).testBit y = true ↔ x = y := fun y => by rw [Nat.testBit_two_pow, decide_eq_true_iff]
  refine Exists.elim (pk_loop (σ := Nat) (fun f r m => wX_orbit_18 post (nI c) b sc w o ws a1 a2 a3 a4 a5 a6 a7 f (nI m) (nI r)) (fun r m => m < 64 ∧ m.testBit x = true ∧ (∀ y, y < 6 → m.testBit y = true → po_R (ps_G c gs) x y) ∧ ((∀ y k, y < 6 → k < c → m.testBit y = true → m.testBit (pg_f (gs k) y) = true) ∨ r + 1 ≤ pg_cn (fun y => m.testBit y = true))) 6 0 (2 ^ x) (by omega) ⟨pc_p64 hx, (hbx x).mpr rfl, fun y hy h => ?_, Or.inr (pg_cn_pos hx ((hbx x).mpr rfl))⟩ ?_ ?_) (fun n hn => ⟨n, hn⟩)
  · rw [← (hbx y).mp h]
    exact po_refl sG x
  · intro f m hI
    obtain ⟨m64, mx, mR, mc⟩ := hI
    refine pk_le 6 6 (fun _ => H m m64 (fun y hy => ⟨mR y hy, fun h => ?_⟩)) (fun z => absurd z (by omega))
    rcases mc with mc | mc
    · exact (po_full (S := fun y => y < 6 ∧ m.testBit y = true) (fun y h => h.1) (fun y k h hk => ⟨pg_lt _ h.1, mc y k h.1 hk h.2⟩) ⟨hx, mx⟩ h).2
    · have := pg_cn_6 (fun y => m.testBit y = true)
      omega
  · intro f r m0 hr hI hw
    obtain ⟨m64, mx, mR, mc⟩ := hI
    refine pk_le 6 r (fun z => absurd z (by omega)) (fun _ => ?_)
    refine pw_orb27 hc h1 m64 mR (fun m hm hle hmR hcl => hw m ⟨hm, hle x hx mx, hmR, ?_⟩)
    have same : (∀ y, y < 6 → m.testBit y = true → m0.testBit y = true) → (∀ y k, y < 6 → k < c → m.testBit y = true → m.testBit (pg_f (gs k) y) = true) := fun hh y k hy hk h => hcl y k hy hk (hh y hy h)
    rcases mc with mc | mc
    · refine Or.inl (same (fun y hy h => ?_))
      exact (po_full (S := fun y => y < 6 ∧ m0.testBit y = true) (fun y h => h.1) (fun y k h hk => ⟨pg_lt _ h.1, mc y k h.1 hk h.2⟩) ⟨hx, mx⟩ (hmR y hy h)).2
    · by_cases hh : ∀ y, y < 6 → m.testBit y = true → m0.testBit y = true
      · exact Or.inl (same hh)
      · refine Or.inr ?_
        have : ∃ y, y < 6 ∧ m.testBit y = true ∧ ¬ m0.testBit y = true := by
          apply Classical.byContradiction
          intro hn
          exact hh (fun y hy h1 => Classical.byContradiction (fun h2 => hn ⟨y, hy, h1, h2⟩))
        obtain ⟨y, hy, h1, h2⟩ := this
        have := pg_cn_lt (S := fun y => m0.testBit y = true) (S' := fun y => m.testBit y = true) hle hy h2 h1
        omega
/-- how many of the first x points are the least of their orbit -/
noncomputable def po_n (G : pg_T → Prop) : Nat → Nat
  | 0 => 0
  | x + 1 => po_n G x + (if pg_d (∀ y, y < x → ¬ po_R G x y) = true then 1 else 0)
theorem po_n_t {G : pg_T → Prop} {x : Nat} (h : ∀ y, y < x → ¬ po_R G x y) : po_n G (x + 1) = po_n G x + 1 := by
  rw [po_n, if_pos (pg_d_t h)]
theorem po_n_f {G : pg_T → Prop} {x : Nat} (h : ¬ ∀ y, y < x → ¬ po_R G x y) : po_n G (x + 1) = po_n G x := by
  rw [po_n, if_neg (fun z => h (pg_d_iff.mp z)), Nat.add_zero]
theorem po_n_le (G : pg_T → Prop) (x : Nat) : po_n G x ≤ x := by
  induction x with
  | zero => exact Nat.le_refl 0
  | succ x ih =>
    rw [po_n]
    split <;> omega
theorem pw_orbits {post : Int32 → Prop} {b sc w o ws : Int32} {a1 a2 a3 a4 a5 a6 a7 : Nat → Int32} {c : Nat} {gs : Nat → pg_T} (hc : c ≤ 5) (h1 : ∀ k, k < c → a1 k = pc_cd (gs k))
    (hp : post (nI (po_n (ps_G c gs) 6))) :
    wpX_orbits post (nI c, b, sc, w, o, ws, a1, a2, a3, a4, a5, a6, a7) := by
  have sG : pg_sub (ps_G c gs) := pg_gen_sub _
  refine Exists.elim (pk_loop (σ := Nat) (fun f x m => wX_orbits_6 post (nI c) b sc w o ws a1 a2 a3 a4 a5 a6 a7 f (nI (po_n (ps_G c gs) x)) (nI m) (nI x)) (fun x m => m < 64 ∧ ∀ y, y < 6 → (m.testBit y = true ↔ ∃ z, z < x ∧ po_R (ps_G c gs) z y)) 6 0 0 (by omega) ⟨by omega, fun y _ => ?_⟩ ?_ ?_) (fun n hn => ⟨n, hn⟩)
  · rw [Nat.zero_testBit]
    exact ⟨fun t => absurd t (by decide), fun t => by obtain ⟨x, hx, _⟩ := t; omega⟩
  · intro f m _
    exact pk_le 6 6 (fun _ => hp) (fun z => absurd z (by omega))
  · intro f x m hx hI hw
    refine pk_le 6 x (fun z => absurd z (by omega)) (fun _ => ek_if (pc_bit0 hI.1 hx) (fun hb => ?_) (fun hb => nm_r (nI_1 x) ?_))
    · have hmin : ∀ y, y < x → ¬ po_R (ps_G c gs) x y := fun y hy h => hb ((hI.2 x hx).mpr ⟨y, hy, po_symm sG h⟩)
      refine pw_orbit hc h1 hx (fun m' hm' hR => ?_)
      have hw' := hw (m ||| m') ⟨pc_or64 hI.1 hm', fun y hy => ?_⟩
      · rw [po_n_t hmin] at hw'
        exact nm_r (pc_or m m') (nm_r (nI_1 _) (nm_r (nI_1 x) hw'))
      · rw [Nat.testBit_or, Bool.or_eq_true, hI.2 y hy, hR y hy]
        constructor
        · intro t
          rcases t with t | t
          · obtain ⟨z, hz, e⟩ := t
            exact ⟨z, by omega, e⟩
          · exact ⟨x, by omega, t⟩
        · intro t
          obtain ⟨z, hz, e⟩ := t
          by_cases ez : z = x
          · rw [ez] at e
            exact Or.inr e
          · exact Or.inl ⟨z, by omega, e⟩
    · have hb' : m.testBit x = true := Classical.byContradiction hb
      obtain ⟨z, hz, hzx⟩ := (hI.2 x hx).mp hb'
      have hw' := hw m ⟨hI.1, fun y hy => ?_⟩
      · rw [po_n_f (fun h => h z hz (po_symm sG hzx))] at hw'
        exact hw'
      · rw [hI.2 y hy]
        constructor
        · intro t
          obtain ⟨z, hz, e⟩ := t
          exact ⟨z, by omega, e⟩
        · intro t
          obtain ⟨z', hz', e⟩ := t
          by_cases ez : z' = x
          · rw [ez] at e
            exact ⟨z, hz, po_trans sG hzx e⟩
          · exact ⟨z', by omega, e⟩
end
section
/-! searching -/
/-- the loop of a search, some fuel -/
def pq_Q (post : Int32 → St1 → Prop) (q c b sc w o ws : Int32) (a1 a2 a3 a4 a5 : Nat → Int32) (f : Nat) (x : Int32) (r : Nat) (a6 a7 : Nat → Int32) : Prop :=
  ∃ n, wX_search_27 post q 721 c b sc w o ws n (nI f) x (nI r) a1 a2 a3 a4 a5 a6 a7
/-- what hopeful must answer -/
def pq_hop (gd : Nat → pg_T → Bool) (q c b sc w o ws : Int32) (a1 a2 a3 a4 a5 : Nat → Int32) : Prop :=
  ∀ (post : Int32 → Prop) (a6 a7 : Nat → Int32) (i : Nat) (h : pg_T), i < 6 → (gd i h = true → post 1) → (¬ gd i h = true → post 0) → wpX_hopeful post (c, b, sc, w, o, ws, a1, a2, a3, a4, a5, a6, a7) q (nI i) (nI (pg_f h i)) (pc_cd h)
theorem pq_inner {post : Int32 → St1 → Prop} {q c b sc w o ws : Int32} {a1 a2 a3 a4 a5 : Nat → Int32} {C : pg_C} {gd : Nat → pg_T → Bool} (t : pt_tab C a2 a3) (hop : pq_hop gd q c b sc w o ws a1 a2 a3 a4 a5) {n i : Nat} (hn : n + (i + 1) = 6)
    (ih : ∀ h f r a6 a7, a7 (i + 1) = pc_cd h → (n ≠ 0 → a6 (i + 1) = nI 0) → f + pg_leaf C gd n (i + 1) h ≤ 720 → r + pg_cost C gd n (i + 1) h ≤ 20000 →
      (∀ a6' a7', (∀ j, j < i + 1 → a6' j = a6 j) → (∀ j, j < i + 1 → a7' j = a7 j) → pq_Q post q c b sc w o ws a1 a2 a3 a4 a5 (f + pg_leaf C gd n (i + 1) h) (nI (i + 1) + (-1)) (r + pg_cost C gd n (i + 1) h) a6' a7') →
      pq_Q post q c b sc w o ws a1 a2 a3 a4 a5 f (nI (i + 1)) r a6 a7) (h : pg_T) :
    ∀ m y, m + y = 6 → ∀ f r a6 a7, a7 i = pc_cd h → a6 i = nI y → f + pg_tl (pg_kid C gd (pg_leaf C gd n (i + 1)) i h) m y ≤ 720 → r + (m + 1) + pg_tl (pg_kid C gd (pg_cost C gd n (i + 1)) i h) m y ≤ 20000 →
      (∀ a6' a7', (∀ j, j < i → a6' j = a6 j) → (∀ j, j < i → a7' j = a7 j) → pq_Q post q c b sc w o ws a1 a2 a3 a4 a5 (f + pg_tl (pg_kid C gd (pg_leaf C gd n (i + 1)) i h) m y) (nI i + (-1)) (r + (m + 1) + pg_tl (pg_kid C gd (pg_cost C gd n (i + 1)) i h) m y) a6' a7') →
      pq_Q post q c b sc w o ws a1 a2 a3 a4 a5 f (nI i) r a6 a7 := by
  intro m
  induction m with
  | zero =>
    intro y hy f r a6 a7 h7 h6 hf hr K
    rw [pg_tl] at hf hr
    obtain ⟨fu, hw⟩ := K a6 a7 (fun _ _ => rfl) (fun _ _ => rfl)
    rw [pg_tl, pg_tl] at hw
    refine ⟨fu + 1, ?_⟩
    refine pk_le 20000 r (fun z => absurd z (by omega)) (fun _ => br_f (nI_pos (by omega)) (pk_le 721 f (fun z => absurd z (by omega)) (fun _ => pk_eq i 6 (fun z => absurd z (by omega)) (fun _ => ⟨vp_in_nI (by omega) (by omega), ?_⟩))))
    rw [nI_clamp (show i < 2 ^ 31 by omega), h6]
    exact pk_eq y 6 (fun _ => nm_e (nm_r (nI_1 r) hw)) (fun z => absurd hy (by omega))
  | succ m ihm =>
    intro y hy f r a6 a7 h7 h6 hf hr K
    rw [pg_tl] at hf hr
    have hi : i < 6 := by omega
    have hy6 : y < 6 := by omega
    -- what follows when nothing is found at y
    have skip : pg_kid C gd (pg_leaf C gd n (i + 1)) i h y = 0 → pg_kid C gd (pg_cost C gd n (i + 1)) i h y = 0 → pq_Q post q c b sc w o ws a1 a2 a3 a4 a5 f (nI i) (r + 1) (upd a6 i (nI (y + 1))) a7 := by
      intro e1 e2
      refine ihm (y + 1) (by omega) f (r + 1) _ a7 h7 pk_us (by omega) (by omega) (fun a6' a7' g6 g7 => ?_)
      have hK := K a6' a7' (fun j hj => by rw [g6 j hj, pk_un (by omega)]) g7
      rw [pg_tl, pg_tl, e1, e2, Nat.zero_add, Nat.zero_add] at hK
      rw [show r + 1 + (m + 1) = r + (m + 1 + 1) by omega]
      exact hK
    have go : ∀ fu, (C i y = none → wX_search_27 post q 721 c b sc w o ws fu (nI f) (nI i) (nI (r + 1)) a1 a2 a3 a4 a5 (upd a6 i (nI (y + 1))) a7) →
        (∀ p, C i y = some p → gd i (pg_mul p h) = true → wX_search_27 post q 721 c b sc w o ws fu (nI f) (nI (i + 1)) (nI (r + 1)) a1 a2 a3 a4 a5 (upd (upd a6 i (nI (y + 1))) (i + 1) 0) (upd a7 (i + 1) (pc_cd (pg_mul p h)))) →
        (∀ p, C i y = some p → ¬ gd i (pg_mul p h) = true → wX_search_27 post q 721 c b sc w o ws fu (nI f) (nI i) (nI (r + 1)) a1 a2 a3 a4 a5 (upd a6 i (nI (y + 1))) a7) →
        wX_search_27 post q 721 c b sc w o ws (fu + 1) (nI f) (nI i) (nI r) a1 a2 a3 a4 a5 a6 a7 := by
      intro fu G0 G1 G2
      refine pk_le 20000 r (fun z => absurd z (by omega)) (fun _ => br_f (nI_pos (by omega)) (pk_le 721 f (fun z => absurd z (by omega)) (fun _ => pk_eq i 6 (fun z => absurd z (by omega)) (fun _ => ⟨vp_in_nI (by omega) (by omega), ?_⟩))))
      rw [nI_clamp (show i < 2 ^ 31 by omega), h6, h7]
      refine pk_eq y 6 (fun z => absurd z (by omega)) (fun _ => ⟨vp_in_nI (by omega) (by omega), ?_⟩)
      rw [pt_ix, nI_clamp (show i * 6 + y < 2 ^ 31 by omega), nI_1]
      refine ⟨vp_in_nI (by omega) (by omega), nm_e ⟨vp_in_nI (by omega) (by omega), vp_in_nI (by omega) (by omega), nm_e ?_⟩⟩
      cases e : C i y with
      | none => exact br_t ((t i y hi hy6).1 e) (nm_r (nI_1 r) (G0 e))
      | some p =>
        have e2 := ((t i y hi hy6).2 p e).1
        refine br_f (by rw [e2]; exact pc_cd_nn p) ⟨vp_in_nI (by omega) (by omega), ?_⟩
        rw [e2]
        refine pw_times ?_
        refine pw_digit hi ?_
        refine hop _ _ _ i (pg_mul p h) hi (fun g => br_f (by decide) (nm_r (nI_1 i) ⟨vp_in_nI (by omega) (by omega), ?_⟩)) (fun g => br_t rfl (nm_r (nI_1 r) (G2 p e g)))
        rw [nI_clamp (show i + 1 < 2 ^ 31 by omega)]
        exact nm_e ⟨vp_in_nI (by omega) (by omega), nm_e (nm_r (nI_1 r) (G1 p e g))⟩
    cases e : C i y with
    | none =>
      obtain ⟨fu, hw⟩ := skip (pg_kid_none e) (pg_kid_none e)
      exact ⟨fu + 1, go fu (fun _ => hw) (fun p hp => absurd (e.symm.trans hp) (by simp)) (fun p hp => absurd (e.symm.trans hp) (by simp))⟩
    | some p =>
      by_cases g : gd i (pg_mul p h) = true
      · rw [pg_kid_t e g] at hf hr
        have hQ : pq_Q post q c b sc w o ws a1 a2 a3 a4 a5 f (nI (i + 1)) (r + 1) (upd (upd a6 i (nI (y + 1))) (i + 1) 0) (upd a7 (i + 1) (pc_cd (pg_mul p h))) := by
          refine ih (pg_mul p h) f (r + 1) _ _ pk_us (fun _ => pk_us) (by omega) (by omega) (fun a6' a7' g6 g7 => ?_)
          rw [pk_m1]
          refine ihm (y + 1) (by omega) _ _ a6' a7' ?_ ?_ (by omega) (by omega) (fun a6'' a7'' k6 k7 => ?_)
          · rw [g7 i (by omega), pk_un (by omega), h7]
          · rw [g6 i (by omega), pk_un (by omega), pk_us]
          · have hK := K a6'' a7'' (fun j hj => by rw [k6 j hj, g6 j (by omega), pk_un (by omega), pk_un (by omega)]) (fun j hj => by rw [k7 j hj, g7 j (by omega), pk_un (by omega)])
            rw [pg_tl, pg_tl, pg_kid_t e g, pg_kid_t e g] at hK
            rw [Nat.add_assoc f, show r + 1 + pg_cost C gd n (i + 1) (pg_mul p h) + (m + 1) + pg_tl (pg_kid C gd (pg_cost C gd n (i + 1)) i h) m (y + 1) = r + (m + 1 + 1) + (pg_cost C gd n (i + 1) (pg_mul p h) + pg_tl (pg_kid C gd (pg_cost C gd n (i + 1)) i h) m (y + 1)) by omega]
            exact hK
        obtain ⟨fu, hw⟩ := hQ
        refine ⟨fu + 1, go fu (fun z => absurd (e.symm.trans z) (by simp)) (fun p' hp _ => ?_) (fun p' hp g' => ?_)⟩
        · rw [← Option.some.inj (e.symm.trans hp)]
          exact hw
        · rw [← Option.some.inj (e.symm.trans hp)] at g'
          exact absurd g g'
      · obtain ⟨fu, hw⟩ := skip (pg_kid_f e g) (pg_kid_f e g)
        refine ⟨fu + 1, go fu (fun z => absurd (e.symm.trans z) (by simp)) (fun p' hp g' => ?_) (fun _ _ _ => hw)⟩
        rw [← Option.some.inj (e.symm.trans hp)] at g'
        exact absurd g' g
theorem pq_node {post : Int32 → St1 → Prop} {q c b sc w o ws : Int32} {a1 a2 a3 a4 a5 : Nat → Int32} {C : pg_C} {gd : Nat → pg_T → Bool} (t : pt_tab C a2 a3) (hop : pq_hop gd q c b sc w o ws a1 a2 a3 a4 a5) :
    ∀ n i, n + i = 6 → ∀ h f r a6 a7, a7 i = pc_cd h → (n ≠ 0 → a6 i = nI 0) → f + pg_leaf C gd n i h ≤ 720 → r + pg_cost C gd n i h ≤ 20000 →
      (∀ a6' a7', (∀ j, j < i → a6' j = a6 j) → (∀ j, j < i → a7' j = a7 j) → pq_Q post q c b sc w o ws a1 a2 a3 a4 a5 (f + pg_leaf C gd n i h) (nI i + (-1)) (r + pg_cost C gd n i h) a6' a7') →
      pq_Q post q c b sc w o ws a1 a2 a3 a4 a5 f (nI i) r a6 a7 := by
  intro n
  induction n with
  | zero =>
    intro i hn h f r a6 a7 h7 h6 hf hr K
    rw [pg_leaf] at hf
    rw [pg_cost] at hr
    obtain ⟨fu, hw⟩ := K a6 a7 (fun _ _ => rfl) (fun _ _ => rfl)
    rw [pg_leaf, pg_cost] at hw
    refine ⟨fu + 1, ?_⟩
    exact pk_le 20000 r (fun z => absurd z (by omega)) (fun _ => br_f (nI_pos (by omega)) (pk_le 721 f (fun z => absurd z (by omega)) (fun _ => pk_eq i 6 (fun _ => nm_r (nI_1 f) (nm_e (nm_r (nI_1 r) hw))) (fun z => absurd hn (by omega)))))
  | succ n ih =>
    intro i hn h f r a6 a7 h7 h6 hf hr K
    rw [pg_leaf] at hf
    rw [pg_cost] at hr
    refine pq_inner t hop (n := n) (by omega) (ih (i + 1) (by omega)) h 6 0 rfl f r a6 a7 h7 (h6 (by omega)) hf (by omega) (fun a6' a7' g6 g7 => ?_)
    have hK := K a6' a7' g6 g7
    rw [pg_leaf, pg_cost, ← Nat.add_assoc] at hK
    exact hK
theorem pw_search {post : Int32 → St1 → Prop} {q b sc w o ws : Int32} {a1 a2 a3 a4 a5 a6 a7 : Nat → Int32} {c : Nat} {gs : Nat → pg_T} {gd : Nat → pg_T → Bool} (hc : c ≤ 5) (h1 : ∀ k, k < c → a1 k = pc_cd (gs k)) (hb : b = 0 ∨ ps_bt (ps_G c gs) a2 a3)
    (hgd : ∀ j h h', (∀ x, x ≤ j → pg_f h x = pg_f h' x) → gd j h = gd j h') (hop : ∀ b sc a2 a3 a4 a5, pq_hop gd q (nI c) b sc w o ws a1 a2 a3 a4 a5)
    (H : ∀ M u', ps_ok c gs u' → pg_hc (fun a => ps_G c gs a ∧ ∀ j, j < 6 → gd j a = true) M → M ≤ 720 → post (nI M) u') :
    wpX_search post (nI c, b, sc, w, o, ws, a1, a2, a3, a4, a5, a6, a7) q 721 := by
  unfold wpX_search
  refine pw_build hc h1 hb (fun b sc a2 a3 a4 a5 ht => ?_)
  obtain ⟨C, t, tv, hG⟩ := ht
  refine nm_e (nm_e ?_)
  have h720 := pg_leaf_le tv hgd
  have hcost : pg_cost C gd 6 0 pg_one ≤ 9379 := pg_cost_le tv gd 6 0 pg_one rfl
  refine pq_node t (hop b sc a2 a3 a4 a5) 6 0 rfl pg_one 0 0 _ _ (by rw [pk_us, pc_one]) (fun _ => pk_us) (by omega) (by omega) (fun a6' a7' _ _ => ⟨1, ?_⟩)
  have hM := H (pg_leaf C gd 6 0 pg_one) (nI c, b, sc, w, o, ws, a1, a2, a3, a4, a5, a6', a7') (ps_mk hc h1 (Or.inr ⟨C, t, tv, hG⟩)) (pg_hc_congr (fun a => by rw [hG a]) (pg_leaf_hc tv hgd)) h720
  rw [Nat.zero_add, Nat.zero_add]
  exact pk_le 20000 (pg_cost C gd 6 0 pg_one) (fun z => absurd z (by omega)) (fun _ => br_t (by decide) hM)
end
section
/-! the three questions -/
def pa_fix (m : Nat) : Nat → pg_T → Bool := fun i h => !(m.testBit i) || decide (pg_f h i = i)
def pa_keep (m : Nat) : Nat → pg_T → Bool := fun i h => m.testBit i == m.testBit (pg_f h i)
theorem pa_fix_t {m i : Nat} {h : pg_T} : pa_fix m i h = true ↔ (m.testBit i = true → pg_f h i = i) := by
  unfold pa_fix
  cases m.testBit i
  · simp
  · simp
theorem pa_keep_t {m i : Nat} {h : pg_T} : pa_keep m i h = true ↔ m.testBit i = m.testBit (pg_f h i) := by
  unfold pa_keep
  exact beq_iff_eq
theorem pa_hop_fix {m : Nat} (hm : m < 64) (c b sc w o : Int32) (a1 a2 a3 a4 a5 : Nat → Int32) : pq_hop (pa_fix m) 0 c b sc w o (nI m) a1 a2 a3 a4 a5 := by
  intro post a6 a7 i h hi Ht Hf
  have hl := pg_lt h hi
  unfold wpX_hopeful
  refine ek_if (pc_bit1 hm hi) (fun hb => ?_) (fun hb => ?_)
  · unfold wX_hopeful_17
    exact br_t rfl (br_f (by decide) (pk_eq (pg_f h i) i (fun e => Ht (pa_fix_t.mpr (fun _ => e))) (fun e => Hf (fun z => e (pa_fix_t.mp z hb)))))
  · unfold wX_hopeful_17
    exact br_t rfl (br_t rfl (Ht (pa_fix_t.mpr (fun z => absurd z hb))))
theorem pa_hop_keep {m : Nat} (hm : m < 64) (c b sc w o : Int32) (a1 a2 a3 a4 a5 : Nat → Int32) : pq_hop (pa_keep m) 1 c b sc w o (nI m) a1 a2 a3 a4 a5 := by
  intro post a6 a7 i h hi Ht Hf
  have hl := pg_lt h hi
  unfold wpX_hopeful
  refine ek_if (pc_bit1 hm hi) (fun hb => ?_) (fun hb => ?_)
  · unfold wX_hopeful_17
    refine br_f (by decide) (br_t rfl (ek_if (pc_bit1 hm hl) (fun hb2 => ?_) (fun hb2 => ?_)))
    · exact br_t rfl (Ht (pa_keep_t.mpr (by rw [hb, hb2])))
    · exact br_f (by decide) (Hf (fun z => hb2 (by rw [← pa_keep_t.mp z, hb])))
  · unfold wX_hopeful_17
    refine br_f (by decide) (br_t rfl (ek_if (pc_bit1 hm hl) (fun hb2 => ?_) (fun hb2 => ?_)))
    · exact br_f (by decide) (Hf (fun z => hb (by rw [pa_keep_t.mp z, hb2])))
    · exact br_t rfl (Ht (pa_keep_t.mpr (by rw [Bool.eq_false_iff.mpr hb, Bool.eq_false_iff.mpr hb2])))
theorem pw_carries {post : Int32 → Prop} {c b sc ws : Int32} {a1 a2 a3 a4 a5 a6 a7 : Nat → Int32} {i : Nat} {h : pg_T} (hi : i < 6) (hp : post 1) : wpX_carries post (c, b, sc, pc_cd pg_one, pc_cd pg_one, ws, a1, a2, a3, a4, a5, a6, a7) (nI i) (pc_cd h) := by
  refine Exists.elim (pk_loop (σ := Unit) (fun n x _ => wX_carries_2 post (nI i) (pc_cd h) c b sc (pc_cd pg_one) (pc_cd pg_one) ws a1 a2 a3 a4 a5 a6 a7 n (nI x)) (fun _ _ => True) (i + 1) 0 () (by omega) trivial ?_ ?_) (fun n hn => ⟨n, hn⟩)
  · intro n _ _
    exact pk_lt i (i + 1) (fun _ => hp) (fun z => absurd z (by omega))
  · intro n x _ hx _ hw
    have hl := pg_lt h (x := x) (by omega)
    refine pk_lt i x (fun z => absurd z (by omega)) (fun _ => ?_)
    refine pw_digit (by omega) ?_
    rw [pg_f_one]
    refine pk_lt i x (fun z => absurd z (by omega)) (fun _ => ?_)
    refine pw_digit (by omega) ?_
    refine pw_digit hl ?_
    rw [pg_f_one]
    refine pw_digit (by omega) ?_
    exact br_t rfl (nm_r (nI_1 x) (hw () trivial))
theorem pa_hop_carry (c b sc ws : Int32) (a1 a2 a3 a4 a5 : Nat → Int32) : pq_hop (fun _ _ => true) 2 c b sc (pc_cd pg_one) (pc_cd pg_one) ws a1 a2 a3 a4 a5 := by
  intro post a6 a7 i h hi Ht _
  unfold wpX_hopeful
  refine br_c (fun _ => ?_) (fun _ => ?_)
  · unfold wX_hopeful_17
    refine br_f (by decide) (br_f (by decide) ?_)
    refine pw_carries hi ?_
    exact ⟨by decide, Ht rfl⟩
  · unfold wX_hopeful_17
    refine br_f (by decide) (br_f (by decide) ?_)
    refine pw_carries hi ?_
    exact ⟨by decide, Ht rfl⟩
theorem pw_fixing {post : Int32 → St1 → Prop} {u : St1} {c : Nat} {gs : Nat → pg_T} (h : ps_ok c gs u) {m : Nat} (hm : m < 64)
    (H : ∀ M u', ps_ok c gs u' → pg_hc (fun a => ps_G c gs a ∧ ∀ j, j < 6 → m.testBit j = true → pg_f a j = j) M → M ≤ 720 → post (nI M) u') : wpX_fixing post u (nI m) := by
  obtain ⟨b, sc, w, o, ws, a1, a2, a3, a4, a5, a6, a7, rfl, hc, h1, hb⟩ := h
  unfold wpX_fixing
  unfold wpX_badSet
  refine br_f (nI_pos (by omega)) (br_t (nI_le (b := 63) (by omega) (by omega)) (br_t rfl ?_))
  refine pw_search hc h1 hb (gd := pa_fix m) (fun j h h' e => ?_) (fun b sc a2 a3 a4 a5 => pa_hop_fix hm _ b sc w o a1 a2 a3 a4 a5) (fun M u' hu hM h720 => ?_)
  · unfold pa_fix
    rw [e j (Nat.le_refl j)]
  · obtain ⟨c', b, sc, w, o, ws, a1, a2, a3, a4, a5, a6, a7⟩ := u'
    exact H M _ hu (pg_hc_congr (fun a => by
      constructor
      · intro t; exact ⟨t.1, fun j hj => pa_fix_t.mp (t.2 j hj)⟩
      · intro t; exact ⟨t.1, fun j hj => pa_fix_t.mpr (t.2 j hj)⟩) hM) h720
theorem pw_keeping {post : Int32 → St1 → Prop} {u : St1} {c : Nat} {gs : Nat → pg_T} (h : ps_ok c gs u) {m : Nat} (hm : m < 64)
    (H : ∀ M u', ps_ok c gs u' → pg_hc (fun a => ps_G c gs a ∧ ∀ j, j < 6 → m.testBit j = m.testBit (pg_f a j)) M → M ≤ 720 → post (nI M) u') : wpX_keeping post u (nI m) := by
  obtain ⟨b, sc, w, o, ws, a1, a2, a3, a4, a5, a6, a7, rfl, hc, h1, hb⟩ := h
  unfold wpX_keeping
  unfold wpX_badSet
  refine br_f (nI_pos (by omega)) (br_t (nI_le (b := 63) (by omega) (by omega)) (br_t rfl ?_))
  refine pw_search hc h1 hb (gd := pa_keep m) (fun j h h' e => ?_) (fun b sc a2 a3 a4 a5 => pa_hop_keep hm _ b sc w o a1 a2 a3 a4 a5) (fun M u' hu hM h720 => ?_)
  · unfold pa_keep
    rw [e j (Nat.le_refl j)]
  · obtain ⟨c', b, sc, w, o, ws, a1, a2, a3, a4, a5, a6, a7⟩ := u'
    exact H M _ hu (pg_hc_congr (fun a => by
      constructor
      · intro t; exact ⟨t.1, fun j hj => pa_keep_t.mp (t.2 j hj)⟩
      · intro t; exact ⟨t.1, fun j hj => pa_keep_t.mpr (t.2 j hj)⟩) hM) h720
theorem pc_oc_one : pc_oc pg_one = 44790 := by decide
theorem pw_commuting {post : Int32 → St1 → Prop} {u : St1} {c : Nat} {gs : Nat → pg_T} (h : ps_ok c gs u)
    (H : ∀ M u', ps_ok c gs u' → pg_hc (ps_G c gs) M → M ≤ 720 → post (nI M) u') : wpX_commuting post u 44790 := by
  obtain ⟨b, sc, w, o, ws, a1, a2, a3, a4, a5, a6, a7, rfl, hc, h1, hb⟩ := h
  rw [← pc_oc_one]
  unfold wpX_commuting
  refine pw_bad (fun _ _ => br_t rfl ?_) (fun z => absurd rfl (z pg_one))
  refine pw_from ?_
  refine pw_search hc h1 hb (gd := fun _ _ => true) (fun j h h' e => rfl) (fun b sc a2 a3 a4 a5 => pa_hop_carry _ b sc ws a1 a2 a3 a4 a5) (fun M u' hu hM h720 => ?_)
  obtain ⟨c', b, sc, w, o, ws, a1, a2, a3, a4, a5, a6, a7⟩ := u'
  exact H M _ hu (pg_hc_congr (fun a => ⟨fun t => t.1, fun t => ⟨t, fun _ _ => rfl⟩⟩) hM) h720
/-! the turns -/
theorem pw_add {post : Int32 → St1 → Prop} {u : St1} {c : Nat} {gs : Nat → pg_T} {x : Int32} (h : ps_ok c gs u)
    (Hn : ∀ u', ps_ok c gs u' → post (-1) u') (Hf : ∀ u', ps_ok c gs u' → post (-2) u')
    (H : ∀ p u', x = pc_oc p → c < 5 → ps_ok (c + 1) (pl_u gs c p) u' → post (nI (c + 1)) u') : wpX_add post u x := by
  have h0 := h
  obtain ⟨b, sc, w, o, ws, a1, a2, a3, a4, a5, a6, a7, rfl, hc, h1, hb⟩ := h
  unfold wpX_add
  refine pw_bad (fun p e => br_t rfl ?_) (fun z => br_f (by decide) (Hn _ h0))
  refine pk_eq c 5 (fun _ => Hf _ h0) (fun hne => ?_)
  rw [e]
  refine pw_from ?_
  refine ⟨vp_in_nI (by omega) (by omega), nm_e (nm_r (nI_1 c) ?_)⟩
  rw [nI_clamp (by omega)]
  refine H p _ e (by omega) (ps_mk (by omega) (fun k hk => ?_) (Or.inl rfl))
  by_cases ek : k = c
  · rw [ek, pk_us, pl_us]
  · rw [pk_un ek, pl_un _ _ _ ek]
    exact h1 k (by omega)
theorem pw_remove {post : Int32 → St1 → Prop} {u : St1} {c : Nat} {gs : Nat → pg_T} (h : ps_ok c gs u)
    (Hn : ∀ u', ps_ok c gs u' → post (-4) u') (H : ∀ p d u', ps_ok d gs u' → post (pc_oc p) u') : wpX_remove post u := by
  have h0 := h
  obtain ⟨b, sc, w, o, ws, a1, a2, a3, a4, a5, a6, a7, rfl, hc, h1, hb⟩ := h
  unfold wpX_remove
  refine pk_eq c 0 (fun _ => Hn _ h0) (fun hne => nm_r (e' := nI (c - 1)) ?_ ⟨vp_in_nI (by omega) (by omega), ?_⟩)
  · obtain ⟨d, rfl⟩ : ∃ d, c = d + 1 := ⟨c - 1, by omega⟩
    exact nI_pred d
  · rw [nI_clamp (by omega), h1 (c - 1) (by omega)]
    refine pw_toOut ?_
    exact H _ (c - 1) _ (ps_mk (by omega) (fun k hk => h1 k (by omega)) (Or.inl rfl))
def pa_conj (q : pg_T) (gs : Nat → pg_T) : Nat → pg_T := fun k => pg_mul (pg_mul (pg_inv q) (gs k)) q
theorem pw_conjAll {post : Int32 → St1 → Prop} {u : St1} {c : Nat} {gs : Nat → pg_T} {x : Int32} (h : ps_ok c gs u)
    (Hn : ∀ u', ps_ok c gs u' → post (-1) u') (H : ∀ q u', ps_ok c (pa_conj q gs) u' → post (nI c) u') : wpX_conjugateAll post u x := by
  have h0 := h
  obtain ⟨b, sc, w, o, ws, a1, a2, a3, a4, a5, a6, a7, rfl, hc, h1, hb⟩ := h
  unfold wpX_conjugateAll
  refine pw_bad (fun q e => br_t rfl ?_) (fun z => br_f (by decide) (Hn _ h0))
  rw [e]
  refine pw_from ?_
  refine Exists.elim (pk_loop (σ := Nat → Int32) (fun f k a1 => wX_conjugateAll_18 post (pc_cd q) (nI c) b sc w o ws f (nI k) a1 a2 a3 a4 a5 a6 a7) (fun k a1 => ∀ j, j < c → a1 j = pc_cd (if j < k then pa_conj q gs j else gs j)) c 0 a1 (by omega) (fun j hj => by rw [if_neg (by omega)]; exact h1 j hj) ?_ ?_) (fun n hn => ⟨n, hn⟩)
  · intro f a1 hI
    exact pk_le c c (fun _ => H q _ (ps_mk hc (fun k hk => by rw [hI k hk, if_pos hk]) (Or.inl rfl))) (fun z => absurd z (by omega))
  · intro f k a1 hk hI hw
    refine pk_le c k (fun z => absurd z (by omega)) (fun _ => ⟨vp_in_nI (by omega) (by omega), ?_⟩)
    rw [nI_clamp (show k < 2 ^ 31 by omega), hI k hk, if_neg (by omega)]
    refine pw_conj ?_
    refine ⟨vp_in_nI (by omega) (by omega), nm_e (nm_r (nI_1 k) (hw _ (fun j hj => ?_)))⟩
    by_cases ej : j = k
    · rw [ej, pk_us, if_pos (by omega)]
      rfl
    · rw [pk_un ej, hI j hj]
      by_cases e2 : j < k
      · rw [if_pos e2, if_pos (by omega)]
      · rw [if_neg e2, if_neg (by omega)]
end
section
/-! what a turn does to the group -/
theorem pz_conj {c : Nat} {gs : Nat → pg_T} (q : pg_T) {N : Nat} (h : pg_hc (ps_G c gs) N) : pg_hc (ps_G c (pa_conj q gs)) N := by
  have sG : pg_sub (ps_G c gs) := pg_gen_sub _
  have sG' : pg_sub (ps_G c (pa_conj q gs)) := pg_gen_sub _
  refine pg_hc_map (fun a => pg_mul (pg_mul (pg_inv q) a) q) (fun a => pg_mul (pg_mul q a) (pg_inv q)) (fun a ha => ?_) (fun a ha => ?_) (fun a => ?_) (fun a => ?_) h
  · refine pg_gen_le (H := fun a => ps_G c (pa_conj q gs) (pg_mul (pg_mul (pg_inv q) a) q)) ⟨?_, ?_, ?_⟩ ?_ ha
    · dsimp only
      rw [pg_mul_one, pg_inv_mul]
      exact sG'.1
    · intro a b ha hb
      have e : pg_mul (pg_mul (pg_inv q) (pg_mul a b)) q = pg_mul (pg_mul (pg_mul (pg_inv q) a) q) (pg_mul (pg_mul (pg_inv q) b) q) := pg_ext (fun x _ => by
        show pg_f q (pg_f b (pg_f a (pg_g q x))) = pg_f q (pg_f b (pg_g q (pg_f q (pg_f a (pg_g q x)))))
        rw [pg_gf])
      rw [e]
      exact sG'.2.1 _ _ ha hb
    · intro a ha
      have e : pg_mul (pg_mul (pg_inv q) (pg_inv a)) q = pg_inv (pg_mul (pg_mul (pg_inv q) a) q) := pg_ext (fun x _ => rfl)
      rw [e]
      exact sG'.2.2 _ ha
    · intro s hs
      obtain ⟨k, hk, rfl⟩ := hs
      exact pg_gen_in ⟨k, hk, rfl⟩
  · refine pg_gen_le (H := fun a => ps_G c gs (pg_mul (pg_mul q a) (pg_inv q))) ⟨?_, ?_, ?_⟩ ?_ ha
    · dsimp only
      rw [pg_mul_one, pg_mul_inv]
      exact sG.1
    · intro a b ha hb
      have e : pg_mul (pg_mul q (pg_mul a b)) (pg_inv q) = pg_mul (pg_mul (pg_mul q a) (pg_inv q)) (pg_mul (pg_mul q b) (pg_inv q)) := pg_ext (fun x _ => by
        show pg_g q (pg_f b (pg_f a (pg_f q x))) = pg_g q (pg_f b (pg_f q (pg_g q (pg_f a (pg_f q x)))))
        rw [pg_fg])
      rw [e]
      exact sG.2.1 _ _ ha hb
    · intro a ha
      have e : pg_mul (pg_mul q (pg_inv a)) (pg_inv q) = pg_inv (pg_mul (pg_mul q a) (pg_inv q)) := pg_ext (fun x _ => rfl)
      rw [e]
      exact sG.2.2 _ ha
    · intro s hs
      obtain ⟨k, hk, rfl⟩ := hs
      have e : pg_mul (pg_mul q (pa_conj q gs k)) (pg_inv q) = gs k := pg_ext (fun x _ => by
        show pg_g q (pg_f q (pg_f (gs k) (pg_g q (pg_f q x)))) = pg_f (gs k) x
        rw [pg_gf, pg_gf])
      rw [e]
      exact pg_gen_in ⟨k, hk, rfl⟩
  · exact pg_ext (fun x _ => by
      show pg_f q (pg_g q (pg_f a (pg_f q (pg_g q x)))) = pg_f a x
      rw [pg_fg, pg_fg])
  · exact pg_ext (fun x _ => by
      show pg_g q (pg_f q (pg_f a (pg_g q (pg_f q x)))) = pg_f a x
      rw [pg_gf, pg_gf])
def pz_rel (o : Nat) (x r : Int32) (c : Nat) (gs : Nat → pg_T) (c' : Nat) (gs' : Nat → pg_T) : Prop :=
  (¬ 0 ≤ r → ∀ N, pg_hc (ps_G c gs) N → pg_hc (ps_G c' gs') N) ∧ (o < 4 → ¬ r ≤ 0 → (∀ a, ps_G c gs a → ps_G c' gs' a) ∧ ∃ p, x = pc_oc p ∧ ps_G c' gs' p) ∧ (5 < o → ∀ N, pg_hc (ps_G c gs) N → pg_hc (ps_G c' gs') N)
theorem pz_same {o : Nat} {x r : Int32} {c : Nat} {gs : Nat → pg_T} (hr : r ≤ 0) : pz_rel o x r c gs c gs :=
  ⟨fun _ _ h => h, fun _ z => absurd hr z, fun _ _ h => h⟩
theorem pw_turn {post : Int32 → St1 → Prop} {u : St1} {c : Nat} {gs : Nat → pg_T} {x : Int32} {o : Nat} (ho : o < 8) (h : ps_ok c gs u)
    (H : ∀ r c' gs' u', ps_ok c' gs' u' → pz_rel o x r c gs c' gs' → post r u') : wpL_turn post u (nI o) x := by
  have h0 := h
  obtain ⟨b, sc, w, o', ws, a1, a2, a3, a4, a5, a6, a7, rfl, hc, h1, hb⟩ := h
  unfold wpL_turn
  refine nm_r (e' := nI o) (by rw [pk_andN (by omega) 3 (by decide), Nat.mod_eq_of_lt ho]) ?_
  refine pk_le 4 o (fun h4 => pk_le 6 o (fun h6 => ?_) (fun h6 => ?_)) (fun h4 => ?_)
  · refine pw_conjAll h0 (fun u' hu => ?_) (fun q u' hu => ?_)
    · obtain ⟨c1, b, sc, w, o', ws, a1, a2, a3, a4, a5, a6, a7⟩ := u'
      exact H _ _ _ _ hu (pz_same (by decide))
    · obtain ⟨c1, b, sc, w, o', ws, a1, a2, a3, a4, a5, a6, a7⟩ := u'
      exact H _ _ _ _ hu ⟨fun _ _ hN => pz_conj q hN, fun z => absurd z (by omega), fun _ _ hN => pz_conj q hN⟩
  · refine pw_remove h0 (fun u' hu => ?_) (fun p d u' hu => ?_)
    · obtain ⟨c1, b, sc, w, o', ws, a1, a2, a3, a4, a5, a6, a7⟩ := u'
      exact H _ _ _ _ hu (pz_same (by decide))
    · obtain ⟨c1, b, sc, w, o', ws, a1, a2, a3, a4, a5, a6, a7⟩ := u'
      refine H _ _ _ _ hu ⟨fun z => absurd (nI_pos' (by have := pc_olt p; omega)) z, fun z => absurd z (by omega), fun z => absurd z (by omega)⟩
  · refine pw_add h0 (fun u' hu => ?_) (fun u' hu => ?_) (fun p u' e hc5 hu => ?_)
    · obtain ⟨c1, b, sc, w, o', ws, a1, a2, a3, a4, a5, a6, a7⟩ := u'
      exact H _ _ _ _ hu (pz_same (by decide))
    · obtain ⟨c1, b, sc, w, o', ws, a1, a2, a3, a4, a5, a6, a7⟩ := u'
      exact H _ _ _ _ hu (pz_same (by decide))
    · obtain ⟨c1, b, sc, w, o', ws, a1, a2, a3, a4, a5, a6, a7⟩ := u'
      refine H _ _ _ _ hu ⟨fun z => absurd (nI_pos' (by omega)) z, fun _ _ => ⟨fun a ha => ?_, p, e, ?_⟩, fun z => absurd z (by omega)⟩
      · refine pg_gen_mono (fun s hs => ?_) ha
        obtain ⟨k, hk, rfl⟩ := hs
        exact pg_gen_in ⟨k, by omega, (pl_un _ _ _ (by omega)).symm⟩
      · exact pg_gen_in ⟨c, by omega, (pl_us _ _ _).symm⟩
/-! the subgroups that fix, and that keep, a set -/
theorem pz_fix_sub {G : pg_T → Prop} (sG : pg_sub G) (m : Nat) : pg_sub (fun a => G a ∧ ∀ j, j < 6 → m.testBit j = true → pg_f a j = j) := by
  refine ⟨⟨sG.1, fun _ _ _ => rfl⟩, fun a b ha hb => ⟨sG.2.1 _ _ ha.1 hb.1, fun j hj hm => ?_⟩, fun a ha => ⟨sG.2.2 _ ha.1, fun j hj hm => ?_⟩⟩
  · rw [pg_f_mul, ha.2 j hj hm, hb.2 j hj hm]
  · have := pg_gf a j
    rw [ha.2 j hj hm] at this
    exact this
theorem pz_keep_sub {G : pg_T → Prop} (sG : pg_sub G) (m : Nat) : pg_sub (fun a => G a ∧ ∀ j, j < 6 → m.testBit j = m.testBit (pg_f a j)) := by
  refine ⟨⟨sG.1, fun _ _ => rfl⟩, fun a b ha hb => ⟨sG.2.1 _ _ ha.1 hb.1, fun j hj => ?_⟩, fun a ha => ⟨sG.2.2 _ ha.1, fun j hj => ?_⟩⟩
  · rw [pg_f_mul, ← hb.2 _ (pg_lt a hj), ← ha.2 j hj]
  · have := ha.2 _ (pg_glt a hj)
    rw [pg_fg] at this
    exact this.symm
theorem pz_fix_keep {G : pg_T → Prop} {m : Nat} {a : pg_T} (h : G a ∧ ∀ j, j < 6 → m.testBit j = true → pg_f a j = j) : G a ∧ ∀ j, j < 6 → m.testBit j = m.testBit (pg_f a j) := by
  refine ⟨h.1, fun j hj => ?_⟩
  by_cases e : m.testBit j = true
  · rw [h.2 j hj e]
  · by_cases e2 : m.testBit (pg_f a j) = true
    · have := pg_inj a (h.2 _ (pg_lt a hj) e2)
      rw [this] at e2
      exact absurd e2 e
    · rw [Bool.eq_false_iff.mpr e, Bool.eq_false_iff.mpr e2]
end
section
/-! sound: what the law asks of a state -/
def pv_87 (post : Int32 → St1 → Prop) (J : Int32 → Int32 → Int32 → Int32 → Int32 → Int32 → Int32 → Int32 → (Nat → Int32) → (Nat → Int32) → (Nat → Int32) → (Nat → Int32) → (Nat → Int32) → (Nat → Int32) → (Nat → Int32) → Prop) (x1 x2 x3 x4 x5 : Int32) (n : Nat) (x7 : Int32) (u : St1) : Prop := match u with
  | (c, b, sc, w, o, ws, a1, a2, a3, a4, a5, a6, a7) => wL_sound_87 post J x1 x2 x3 x4 x5 n x7 c b sc w o ws a1 a2 a3 a4 a5 a6 a7
def pv_10 (post : Int32 → St1 → Prop) (x1 x2 : Int32) (n : Nat) (x3 x4 : Int32) (u : St1) : Prop := match u with
  | (c, b, sc, w, o, ws, a1, a2, a3, a4, a5, a6, a7) => wL_sound_10 post x1 x2 n x3 x4 c b sc w o ws a1 a2 a3 a4 a5 a6 a7
theorem pw_s87 {post : Int32 → St1 → Prop} {x1 x2 x3 : Int32} {f : Nat} {u : St1} {c : Nat} {gs : Nat → pg_T} (h : ps_ok c gs u) {x m : Nat} (hx : x < 6) (hm : m < 64) (hR : ∀ y, y < 6 → (m.testBit y = true ↔ po_R (ps_G c gs) x y))
    (H : ∀ u', ps_ok c gs u' → pv_10 post x1 x2 f x3 (nI (x + 1)) u') :
    ∃ n, pv_87 post (wL_sound_10 post x1 x2 f) x1 x2 x3 (nI x) (nI m) n 0 u := by
  have sG : pg_sub (ps_G c gs) := pg_gen_sub _
  refine Exists.elim (pk_loop (σ := St1) (fun n y u => pv_87 post (wL_sound_10 post x1 x2 f) x1 x2 x3 (nI x) (nI m) n (nI y) u) (fun _ u => ps_ok c gs u) 6 0 u (by omega) h ?_ ?_) (fun n hn => ⟨n, hn⟩)
  · intro n u hu
    have hH := H u hu
    obtain ⟨c1, b, sc, w, o, ws, a1, a2, a3, a4, a5, a6, a7⟩ := u
    exact pk_le 6 6 (fun _ => nm_r (nI_1 x) hH) (fun z => absurd z (by omega))
  · intro n y u hy hu hw
    obtain ⟨c1, b, sc, w, o, ws, a1, a2, a3, a4, a5, a6, a7⟩ := u
    refine pk_le 6 y (fun z => absurd z (by omega)) (fun _ => ?_)
    refine pw_carrier hu hx hy (fun hno u' hu' => ?_) (fun g hg e u' hu' => ?_)
    · have hw' := hw u' hu'
      obtain ⟨c1, b, sc, w, o, ws, a1, a2, a3, a4, a5, a6, a7⟩ := u'
      have hb : ¬ m.testBit y = true := fun z => by
        obtain ⟨g, hg, e⟩ := (hR y hy).mp z
        exact hno g hg e
      refine br_f (fun z => hb ((pc_bit1 hm hy).mp z)) ?_
      unfold wL_sound_120
      refine br_t (by decide) ?_
      unfold wL_sound_134
      refine br_t rfl (br_t rfl ?_)
      unfold wL_sound_162
      exact br_t rfl (br_t rfl (nm_r (nI_1 y) hw'))
    · have hb : m.testBit y = true := (hR y hy).mpr ⟨g, hg, e⟩
      have h0 := hu'
      obtain ⟨b, sc, w, o, ws, a1, a2, a3, a4, a5, a6, a7, rfl, hc, h1, hbt⟩ := hu'
      refine br_t ((pc_bit1 hm hy).mpr hb) ?_
      unfold wL_sound_120
      refine br_f (pc_oc_nn g) ?_
      unfold wL_sound_134
      refine br_t rfl (br_f (by decide) ?_)
      refine pw_orbit hc h1 hy (fun m' hm' hR' => ?_)
      refine br_t ?_ ?_
      · apply congrArg nI
        refine pc_bext hm' hm (fun z hz => ?_)
        rw [hR' z hz, hR z hz]
        have hxy : po_R (ps_G c gs) x y := ⟨g, hg, e⟩
        exact ⟨fun t => po_trans sG hxy t, fun t => po_trans sG (po_symm sG hxy) t⟩
      · refine pw_has h0 hg (fun u' hu' => ?_)
        have hw' := hw u' hu'
        obtain ⟨c1, b, sc, w, o, ws, a1, a2, a3, a4, a5, a6, a7⟩ := u'
        refine br_f (by decide) ?_
        unfold wL_sound_162
        exact br_f (by decide) (nm_r (nI_1 y) hw')
theorem pw_sound {post : Int32 → St1 → Prop} {u : St1} {c : Nat} {gs : Nat → pg_T} (h : ps_ok c gs u) {m : Nat} (hm : m < 64) (H : ∀ u', ps_ok c gs u' → post 1 u') : wpL_sound post u (nI m) := by
  have sG : pg_sub (ps_G c gs) := pg_gen_sub _
  obtain ⟨c0, b, sc, w, o, ws, a1, a2, a3, a4, a5, a6, a7⟩ := u
  unfold wpL_sound
  refine pw_order h (fun N u' hu' hN h720 => ?_)
  have hN1 : 1 ≤ N := pg_hc_pos hN sG.1
  have key : ∃ n, pv_10 post (nI m) (nI N) n 0 0 u' := by
    refine Exists.elim (pk_loop (σ := St1) (fun n x u => pv_10 post (nI m) (nI N) n (nI (po_n (ps_G c gs) x)) (nI x) u) (fun _ u => ps_ok c gs u) 6 0 u' (by omega) hu' ?_ ?_) (fun n hn => ⟨n, hn⟩)
    · intro n u hu
      obtain ⟨c1, b, sc, w, o, ws, a1, a2, a3, a4, a5, a6, a7⟩ := u
      refine pk_le 6 6 (fun _ => ?_) (fun z => absurd z (by omega))
      refine pw_fixing hu hm (fun F u1 hu1 hF _ => ?_)
      have hF1 : 1 ≤ F := pg_hc_pos hF (pz_fix_sub sG m).1
      obtain ⟨c1, b, sc, w, o, ws, a1, a2, a3, a4, a5, a6, a7⟩ := u1
      refine pw_keeping hu1 hm (fun K u2 hu2 hK _ => ?_)
      have hFK : F ≤ K := pg_hc_le hF hK (fun a ha => pz_fix_keep ha)
      have hKN : K ≤ N := pg_hc_le hK hN (fun a ha => ha.1)
      have hdv : F ∣ K := pg_lag (pz_fix_sub sG m) (pz_keep_sub sG m) (fun a ha => pz_fix_keep ha) hF hK
      have h2 := hu2
      obtain ⟨b, sc, w, o, ws, a1, a2, a3, a4, a5, a6, a7, rfl, hc, h1, hbt⟩ := hu2
      refine pk_lt N 1 (fun z => absurd z (by omega)) (fun _ => pk_lt 720 N (fun z => absurd z (by omega)) (fun _ => ?_))
      refine pw_orbits hc h1 ?_
      refine br_t rfl (pk_lt F 1 (fun z => absurd z (by omega)) (fun _ => pk_lt K F (fun z => absurd z (by omega)) (fun _ => pk_lt N K (fun z => absurd z (by omega)) (fun _ => ⟨nI_ne0 (by omega) (by omega), ?_⟩))))
      rw [pk_rem (by omega) (by omega) (by omega), Nat.mod_eq_zero_of_dvd hdv]
      refine br_t nI_0 ?_
      rw [← pc_oc_one]
      refine pw_has h2 sG.1 (fun u3 hu3 => ?_)
      obtain ⟨c1, b, sc, w, o, ws, a1, a2, a3, a4, a5, a6, a7⟩ := u3
      refine br_f (by decide) ?_
      rw [pc_oc_one]
      refine pw_commuting hu3 (fun M u4 hu4 hM _ => ?_)
      have h4 := hu4
      obtain ⟨b, sc, w, o, ws, a1, a2, a3, a4, a5, a6, a7, rfl, hc, h1, hbt⟩ := hu4
      refine br_t (by rw [pg_hc_uniq hM hN]) ?_
      refine br_f (nI_pos (by omega)) ?_
      exact br_f (nI_nlt (a := 5) hc (by omega)) (H _ h4)
    · intro n x u hx hu hw
      have h0 := hu
      obtain ⟨b, sc, w, o, ws, a1, a2, a3, a4, a5, a6, a7, rfl, hc, h1, hbt⟩ := hu
      refine pk_le 6 x (fun z => absurd z (by omega)) (fun _ => ?_)
      refine pw_orbit hc h1 hx (fun m' hm' hR => ?_)
      refine pw_carrier h0 hx hx (fun hno _ _ => absurd rfl (hno pg_one sG.1)) (fun g hg _ u1 hu1 => ?_)
      obtain ⟨c1, b, sc, w, o, ws, a1, a2, a3, a4, a5, a6, a7⟩ := u1
      refine br_t ((pc_bit1 hm' hx).mpr ((hR x hx).mpr (po_refl sG x))) (pk_lt 63 m' (fun z => absurd z (by omega)) (fun _ => ?_))
      refine pw_has hu1 hg (fun u2 hu2 => ?_)
      have h2 := hu2
      obtain ⟨b, sc, w, o, ws, a1, a2, a3, a4, a5, a6, a7, rfl, hc, h1, hbt⟩ := hu2
      refine br_f (by decide) (ek_if (pc_lowbits hm' hx) (fun hl => nm_r (nI_1 _) ?_) (fun hl => ?_))
      · refine pw_s87 h2 hx hm' hR (fun u3 hu3 => ?_)
        rw [← po_n_t (G := ps_G c gs) (fun y hy hr => hl y hy ((hR y (by omega)).mpr hr))]
        exact hw u3 hu3
      · refine pw_s87 h2 hx hm' hR (fun u3 hu3 => ?_)
        rw [← po_n_f (G := ps_G c gs) (fun z => hl (fun y hy hr => z y hy ((hR y (by omega)).mp hr)))]
        exact hw u3 hu3
  obtain ⟨c1, b, sc, w, o, ws, a1, a2, a3, a4, a5, a6, a7⟩ := u'
  exact key
end
section
/-! the law -/
def pv_law (post : Int32 → Prop) (L : Nat) (xs : Nat → Int32) (kc ks : Nat) (n : Nat) (x2 : Int32) (u : St1) : Prop := match u with
  | (c, b, sc, w, o, ws, a1, a2, a3, a4, a5, a6, a7) => wL_law_10 post L xs kc ks n x2 c b sc w o ws a1 a2 a3 a4 a5 a6 a7
theorem pw_l104 {L : Nat} {xs : Nat → Int32} {kc ks n : Nat} {k o N N' : Nat} {c b sc w o' ws : Int32} {a1 a2 a3 a4 a5 a6 a7 : Nat → Int32} (ho : o < 8) (he : 5 < o → N' = N)
    (hJ : pv_law (fun r => r = 1) L xs kc ks n (nI (k + 2)) (c, b, sc, w, o', ws, a1, a2, a3, a4, a5, a6, a7)) :
    wL_law_104 (fun r => r = 1) L xs (wL_law_10 (fun r => r = 1) L xs kc ks n) (nI k) (nI o) (nI N) (nI N') kc ks c b sc w o' ws a1 a2 a3 a4 a5 a6 a7 := by
  unfold wL_law_104
  refine pk_le o 5 (fun _ => nm_r (nI_add k 2) hJ) (fun z => br_t (by rw [he z]) (nm_r (nI_add k 2) hJ))
theorem i_vc (xs : Nat → Int32) (L : Nat) (hL : L ≤ 260) : wpL_law (fun r => r = 1) L xs := by
  refine ⟨7, 171, by omega, by omega, ?_⟩
  refine ⟨by omega, by omega, by omega, by omega, by omega, by omega, by omega, by omega, by omega, by omega, by omega, by omega, by omega, by omega, ?_⟩
  refine Exists.elim (pk_loop (σ := St1) (fun n i u => pv_law (fun r => r = 1) L xs (1 + 7) (13 + 171) n (nI (2 * i)) u) (fun _ u => ∃ c gs, ps_ok c gs u) (L / 2) 0 (0, 0, 0, 0, 0, 0, (fun _ => 0), (fun _ => 0), (fun _ => 0), (fun _ => 0), (fun _ => 0), (fun _ => 0), (fun _ => 0)) (by omega) ⟨0, fun _ => pg_one, ps_mk (by omega) (fun k hk => absurd hk (by omega)) (Or.inl rfl)⟩ ?_ ?_) (fun n hn => ⟨n, hn⟩)
  · intro n u _
    obtain ⟨c1, b, sc, w, o, ws, a1, a2, a3, a4, a5, a6, a7⟩ := u
    exact pk_le L (2 * (L / 2) + 1) (fun _ => rfl) (fun z => absurd z (by omega)) rfl (nI_1 _)
  · intro n i u hi hu hw
    obtain ⟨c, gs, hu⟩ := hu
    obtain ⟨c1, b, sc, w, o, ws, a1, a2, a3, a4, a5, a6, a7⟩ := u
    refine pk_le L (2 * i + 1) (fun z => absurd z (by omega)) (fun _ => ⟨vp_in_nI (by omega) (by omega), ?_⟩) rfl (nI_1 _)
    obtain ⟨op, hop, eop⟩ := pk_andE (xs (nI (2 * i)).toNatClampNeg) (m := 7) 3 (by decide)
    refine nm_r eop ?_
    rw [nI_1, nI_clamp (show 2 * i + 1 < 2 ^ 31 by omega)]
    refine pw_order hu (fun N u1 hu1 hN h720 => ?_)
    have hN1 : 1 ≤ N := pg_hc_pos hN (pg_gen_sub _).1
    obtain ⟨c1, b, sc, w, o, ws, a1, a2, a3, a4, a5, a6, a7⟩ := u1
    refine ⟨vp_in_nI (by omega) (by omega), ?_⟩
    refine pw_turn (show op < 8 from hop) hu1 (fun r c' gs' u2 hu2 hrel => ?_)
    obtain ⟨c1, b, sc, w, o, ws, a1, a2, a3, a4, a5, a6, a7⟩ := u2
    refine pw_order hu2 (fun N' u3 hu3 hN' h720' => ?_)
    obtain ⟨c1, b, sc, w, o, ws, a1, a2, a3, a4, a5, a6, a7⟩ := u3
    rw [pk_andN (show 2 * i < 2 ^ 32 by omega) (m := 63) 6 (by decide)]
    refine pw_sound hu3 (Nat.mod_lt _ (by omega)) (fun u4 hu4 => ?_)
    obtain ⟨c1, b, sc, w, o, ws, a1, a2, a3, a4, a5, a6, a7⟩ := u4
    have hop8 : op < 8 := hop
    have same : 5 < op → N' = N := fun z => pg_hc_uniq hN' (hrel.2.2 z N hN)
    have fin : ∀ u, ps_ok c' gs' u → pv_law (fun r => r = 1) L xs (1 + 7) (13 + 171) n (nI (2 * i + 2)) u := fun u hu => hw u ⟨c', gs', hu⟩
    have l72 : wL_law_72 (fun r => r = 1) L xs (wL_law_10 (fun r => r = 1) L xs (1 + 7) (13 + 171) n) (nI (2 * i)) (nI op) (nI N) r (nI N') (1 + 7) (13 + 171) c1 b sc w o ws a1 a2 a3 a4 a5 a6 a7 := by
      unfold wL_law_72
      refine pk_le 4 op (fun _ => pw_l104 hop8 same (fin _ hu4)) (fun h4 => br_c (fun _ => pw_l104 hop8 same (fin _ hu4)) (fun hr => ⟨nI_ne0 (by omega) (by omega), ?_⟩))
      obtain ⟨hle, p, ep, hp⟩ := hrel.2.1 h4 hr
      have hdv : N ∣ N' := pg_lag (pg_gen_sub _) (pg_gen_sub _) hle hN hN'
      rw [pk_rem (by omega) (by omega) (by omega), Nat.mod_eq_zero_of_dvd hdv]
      refine br_t nI_0 ?_
      rw [nI_1, nI_clamp (show 2 * i + 1 < 2 ^ 31 by omega)]
      refine ⟨vp_in_nI (by omega) (by omega), ?_⟩
      rw [ep]
      refine pw_has hu4 hp (fun u5 hu5 => ?_)
      obtain ⟨c1, b, sc, w, o, ws, a1, a2, a3, a4, a5, a6, a7⟩ := u5
      exact br_f (by decide) (pw_l104 hop8 same (fin _ hu5))
    refine br_f (by decide) (br_c (fun _ => l72) (fun hr => br_t ?_ l72))
    rw [pg_hc_uniq hN' (hrel.1 hr N hN)]
end

section
/-! sums, pigeonhole, function update -/
section
def fu {α : Type} (f : Nat → α) (k : Nat) (x : α) : Nat → α := fun j => if j = k then x else f j
theorem fu_s {α : Type} {f : Nat → α} {k : Nat} {x : α} : fu f k x k = x := if_pos rfl
theorem fu_n {α : Type} {f : Nat → α} {k j : Nat} {x : α} (h : j ≠ k) : fu f k x j = f j := if_neg h
theorem fu_id {α : Type} {f : Nat → α} {k : Nat} : fu f k (f k) = f := by
  funext j; unfold fu; split
  · next h => rw [h]
  · rfl
theorem us_s {f : Nat → Int32} {k : Nat} {x : Int32} : upd f k x k = x := if_pos rfl
theorem us_n {f : Nat → Int32} {k j : Nat} {x : Int32} (h : j ≠ k) : upd f k x j = f j := if_neg h
theorem us_fu (f : Nat → Int32) (k : Nat) (x : Int32) : upd f k x = fu f k x := rfl
def tI (a : Nat → Int32) : Nat → Int := fun i => (a i).toInt
theorem tI_u (a : Nat → Int32) (k : Nat) (x : Int32) : tI (upd a k x) = fu (tI a) k x.toInt := by
  funext j; unfold tI upd fu; split <;> rfl
/-- a sum over the first n, in any commutative law -/
def sg_s {M : Type} (op : M → M → M) (z : M) (f : Nat → M) : Nat → M
  | 0 => z
  | n + 1 => op (sg_s op z f n) (f n)
theorem sg_c {M : Type} {op : M → M → M} {z : M} {f f' : Nat → M} : ∀ {n : Nat}, (∀ i, i < n → f i = f' i) → sg_s op z f n = sg_s op z f' n
  | 0, _ => rfl
  | n + 1, h => by
    unfold sg_s
    rw [sg_c (n := n) (fun i hi => h i (by omega)), h n (by omega)]
theorem sg_u {M : Type} {op : M → M → M} {z : M} (ha : ∀ a b c, op (op a b) c = op a (op b c)) (hc : ∀ a b, op a b = op b a) {f : Nat → M} {t : Nat} {v : M} : ∀ {n : Nat}, t < n → op (sg_s op z (fu f t v) n) (f t) = op (sg_s op z f n) v
  | 0, h => by omega
  | n + 1, h => by
    unfold sg_s
    rcases Nat.lt_or_ge t n with z1 | z1
    · have ih := sg_u (z := z) ha hc (f := f) (v := v) z1
      rw [fu_n (j := n) (by omega), ha, hc (f n) (f t), ← ha, ih, ha, ha, hc v (f n)]
    · have e : t = n := by omega
      subst e
      rw [fu_s, sg_c (f := fu f t v) (f' := f) (n := t) (fun i hi => fu_n (by omega)), ha, ha, hc v (f t)]
theorem sg_p {M : Type} {op : M → M → M} {z : M} (ha : ∀ a b c, op (op a b) c = op a (op b c)) (hc : ∀ a b, op a b = op b a) {f : Nat → M} : ∀ {n : Nat} {φ : Nat → Nat}, (∀ i, i < n → φ i < n) → (∀ i j, i < n → j < n → φ i = φ j → i = j) → (∀ j, j < n → ∃ i, i < n ∧ φ i = j) → sg_s op z (fun i => f (φ i)) n = sg_s op z f n
  | 0, _, _, _, _ => rfl
  | n + 1, φ, h1, h2, h3 => by
    rcases Nat.lt_or_ge (φ n) n with z1 | z1
    · obtain ⟨i0, hi0, e0⟩ := h3 n (by omega)
      have hi1 : i0 < n := by
        rcases Nat.lt_or_ge i0 n with q | q
        · exact q
        · have : i0 = n := by omega
          subst this; omega
      have ih := sg_p (z := z) ha hc (f := f) (n := n) (φ := fu φ i0 (φ n))
        (by
          intro i hi
          unfold fu; split
          · exact z1
          · next q =>
            have a := h1 i (by omega)
            rcases Nat.lt_or_ge (φ i) n with b | b
            · exact b
            · exact absurd (h2 i i0 (by omega) hi0 (by omega)) q)
        (by
          intro i j hi hj
          unfold fu; split <;> split
          · intro; omega
          · next a b => intro e; have := h2 n j (by omega) (by omega) e; omega
          · next a b => intro e; have := h2 i n (by omega) (by omega) e; omega
          · intro e; exact h2 i j (by omega) (by omega) e)
        (by
          intro j hj
          obtain ⟨i, hi, e⟩ := h3 j (by omega)
          rcases Nat.lt_or_ge i n with q | q
          · refine ⟨i, q, ?_⟩
            rw [fu_n]
            · exact e
            · intro z2; subst z2; omega
          · have : i = n := by omega
            subst this
            exact ⟨i0, hi1, by rw [fu_s]; exact e⟩)
      have k := sg_u (z := z) ha hc (f := fun i => f (φ i)) (t := i0) (v := f (φ n)) (n := n) hi1
      have e2 : sg_s op z (fu (fun i => f (φ i)) i0 (f (φ n))) n = sg_s op z (fun i => f (fu φ i0 (φ n) i)) n := sg_c (fun i _ => by unfold fu; split <;> rfl)
      rw [e2, ih, e0] at k
      show op (sg_s op z (fun i => f (φ i)) n) (f (φ n)) = op (sg_s op z f n) (f n)
      exact k.symm
    · have e : φ n = n := by have := h1 n (by omega); omega
      have ih := sg_p (z := z) ha hc (f := f) (n := n) (φ := φ)
        (by
          intro i hi
          have a := h1 i (by omega)
          rcases Nat.lt_or_ge (φ i) n with b | b
          · exact b
          · have := h2 i n (by omega) (by omega) (by omega); omega)
        (fun i j hi hj => h2 i j (by omega) (by omega))
        (by
          intro j hj
          obtain ⟨i, hi, e1⟩ := h3 j (by omega)
          rcases Nat.lt_or_ge i n with q | q
          · exact ⟨i, q, e1⟩
          · have : i = n := by omega
            subst this; omega)
      show op (sg_s op z (fun i => f (φ i)) n) (f (φ n)) = op (sg_s op z f n) (f n)
      rw [ih, e]
theorem pg_h : ∀ {b a : Nat} {φ : Nat → Nat}, (∀ i, i < a → φ i < b) → (∀ i j, i < a → j < a → φ i = φ j → i = j) → a ≤ b
  | 0, 0, _, _, _ => Nat.le_refl _
  | 0, a + 1, φ, h1, _ => absurd (h1 0 (by omega)) (by omega)
  | b + 1, 0, _, _, _ => Nat.zero_le _
  | b + 1, a + 1, φ, h1, h2 => by
    have ih := pg_h (b := b) (a := a) (φ := fun i => if φ i = b then φ a else φ i)
      (by
        intro i hi

        split
        · next q =>
          have a1 := h1 a (by omega)
          rcases Nat.lt_or_ge (φ a) b with c | c
          · exact c
          · have := h2 i a (by omega) (by omega) (by omega); omega
        · have := h1 i (by omega); omega)
      (by
        intro i j hi hj

        split <;> split
        · intro; exact h2 i j (by omega) (by omega) (by omega)
        · intro e; have := h2 a j (by omega) (by omega) e; omega
        · intro e; have := h2 i a (by omega) (by omega) e; omega
        · intro e; exact h2 i j (by omega) (by omega) e)
    omega
/-- naturals -/
def sn_s (f : Nat → Nat) (n : Nat) : Nat := sg_s (fun a b : Nat => a + b) 0 f n
theorem sn_0 (f : Nat → Nat) : sn_s f 0 = 0 := rfl
theorem sn_1 (f : Nat → Nat) (n : Nat) : sn_s f (n + 1) = sn_s f n + f n := rfl
theorem sn_c {f f' : Nat → Nat} {n : Nat} (h : ∀ i, i < n → f i = f' i) : sn_s f n = sn_s f' n := sg_c h
theorem sn_u {f : Nat → Nat} {t v n : Nat} (h : t < n) : sn_s (fu f t v) n + f t = sn_s f n + v := sg_u (op := fun a b : Nat => a + b) Nat.add_assoc Nat.add_comm h
theorem sn_p {f : Nat → Nat} {n : Nat} {φ : Nat → Nat} (h1 : ∀ i, i < n → φ i < n) (h2 : ∀ i j, i < n → j < n → φ i = φ j → i = j) (h3 : ∀ j, j < n → ∃ i, i < n ∧ φ i = j) : sn_s (fun i => f (φ i)) n = sn_s f n := sg_p (op := fun a b : Nat => a + b) Nat.add_assoc Nat.add_comm h1 h2 h3
theorem sn_le {f f' : Nat → Nat} : ∀ {n : Nat}, (∀ i, i < n → f i ≤ f' i) → sn_s f n ≤ sn_s f' n
  | 0, _ => Nat.le_refl _
  | n + 1, h => by
    rw [sn_1, sn_1]
    have := sn_le (n := n) (fun i hi => h i (by omega))
    have := h n (by omega)
    omega
theorem sn_b {f : Nat → Nat} {c : Nat} : ∀ {n : Nat}, (∀ i, i < n → f i ≤ c) → sn_s f n ≤ n * c
  | 0, _ => by rw [sn_0]; omega
  | n + 1, h => by
    rw [sn_1, Nat.succ_mul]
    have := sn_b (n := n) (fun i hi => h i (by omega))
    have := h n (by omega)
    omega
theorem sn_g {f : Nat → Nat} {t : Nat} : ∀ {n : Nat}, t < n → f t ≤ sn_s f n
  | 0, h => by omega
  | n + 1, h => by
    rw [sn_1]
    rcases Nat.lt_or_ge t n with z | z
    · have := sn_g (f := f) z; omega
    · have : t = n := by omega
      subst this; omega
theorem sn_z {f : Nat → Nat} : ∀ {n : Nat}, (∀ i, i < n → f i = 0) → sn_s f n = 0
  | 0, _ => rfl
  | n + 1, h => by rw [sn_1, sn_z (n := n) (fun i hi => h i (by omega)), h n (by omega)]
theorem sn_e {f : Nat → Nat} : ∀ {n : Nat}, 0 < sn_s f n → ∃ i, i < n ∧ 0 < f i
  | 0, h => by rw [sn_0] at h; omega
  | n + 1, h => by
    rw [sn_1] at h
    rcases Nat.eq_zero_or_pos (f n) with z | z
    · obtain ⟨i, hi, q⟩ := sn_e (f := f) (n := n) (by omega)
      exact ⟨i, by omega, q⟩
    · exact ⟨n, by omega, z⟩
/-- ints -/
def si_s (f : Nat → Int32) (n : Nat) : Int32 := sg_s (fun a b : Int32 => a + b) 0 f n
theorem si_1 (f : Nat → Int32) (n : Nat) : si_s f (n + 1) = si_s f n + f n := rfl
theorem si_c {f f' : Nat → Int32} {n : Nat} (h : ∀ i, i < n → f i = f' i) : si_s f n = si_s f' n := sg_c h
theorem si_u {f : Nat → Int32} {t n : Nat} {v : Int32} (h : t < n) : si_s (fu f t v) n + f t = si_s f n + v := sg_u (op := fun a b : Int32 => a + b) Int32.add_assoc Int32.add_comm h
theorem si_p {f : Nat → Int32} {n : Nat} {φ : Nat → Nat} (h1 : ∀ i, i < n → φ i < n) (h2 : ∀ i j, i < n → j < n → φ i = φ j → i = j) (h3 : ∀ j, j < n → ∃ i, i < n ∧ φ i = j) : si_s (fun i => f (φ i)) n = si_s f n := sg_p (op := fun a b : Int32 => a + b) Int32.add_assoc Int32.add_comm h1 h2 h3
theorem si_z {f : Nat → Int32} : ∀ {n : Nat}, (∀ i, i < n → f i = 0) → si_s f n = 0
  | 0, _ => rfl
  | n + 1, h => by rw [si_1, si_z (n := n) (fun i hi => h i (by omega)), h n (by omega)]; rfl
end
end
section
/-! one task by itself: its line, its registers, its children in the order of their spawning.
 A task's state: procedure, line, registers, clock, number of children, number of children folded, result, ended,
 what it spawned, what it tallied, how often it ran each line, how many lines it ran. -/
section
abbrev zl_P : Type := Nat × Int32 × Int32
abbrev zl_O : Type := Int32 × Int32
abbrev zl_G : Type := (Nat → Int32) × (Nat → Int32) × (Nat → Int32) × (Nat → Nat)
abbrev zl_T : Type := Nat × Nat × (Nat → Int32) × Int32 × Nat × Nat × Int32 × Bool × (Nat → zl_P) × (Nat → Int32) × (Nat → Nat) × Nat
def zl_pr (l : zl_T) : Nat := l.1
def zl_pc (l : zl_T) : Nat := l.2.1
def zl_rg (l : zl_T) : Nat → Int32 := l.2.2.1
def zl_ck (l : zl_T) : Int32 := l.2.2.2.1
def zl_nk (l : zl_T) : Nat := l.2.2.2.2.1
def zl_ow (l : zl_T) : Nat := l.2.2.2.2.2.1
def zl_rs (l : zl_T) : Int32 := l.2.2.2.2.2.2.1
def zl_dn (l : zl_T) : Bool := l.2.2.2.2.2.2.2.1
def zl_sp (l : zl_T) : Nat → zl_P := l.2.2.2.2.2.2.2.2.1
def zl_tl (l : zl_T) : Nat → Int32 := l.2.2.2.2.2.2.2.2.2.1
def zl_cn (l : zl_T) : Nat → Nat := l.2.2.2.2.2.2.2.2.2.2.1
def zl_nl (l : zl_T) : Nat := l.2.2.2.2.2.2.2.2.2.2.2
def zl_ini (p : zl_P) : zl_T := (p.1, 0, fu (fun _ => 0) 0 p.2.1, p.2.2, 0, 0, 0, false, fun _ => (0, 0, 0), fun _ => 0, fun _ => 0, 0)
def zl_m1 (c k : Int32) : Int32 := if k ≤ c then c else k
def zl_mx (o : Nat → zl_O) : Int32 → Nat → Nat → Int32
  | c, _, 0 => c
  | c, i, n + 1 => zl_mx o (zl_m1 c (o i).2) (i + 1) n
def zl_fo (o : Nat → zl_O) (f : Int32) : Int32 → Nat → Nat → Int32
  | r, _, 0 => r
  | r, i, n + 1 => zl_fo o f (r * f + (o i).1) (i + 1) n
def zl_cv (o x y b : Int32) : Int32 := if o = 0 then b else if o = 1 then y else if o = 2 then x + y else if o = 3 then x - y else if o = 4 then x * y else x + b
def zl_at (l : zl_T) : Nat := zl_pr l * 10 + zl_pc l
def zl_op (g : zl_G) (l : zl_T) : Int32 := g.1 (zl_at l)
def zl_la (g : zl_G) (l : zl_T) : Nat := (g.2.1 (zl_at l)).toNatClampNeg
def zl_lb (g : zl_G) (l : zl_T) : Int32 := g.2.2.1 (zl_at l)
def zl_lr (g : zl_G) (l : zl_T) : Nat := (g.2.2.1 (zl_at l)).toNatClampNeg
/-- the procedure's lines are at an end -/
def zl_e (g : zl_G) (l : zl_T) : Prop := g.2.2.2 (zl_pr l) ≤ zl_pc l
/-- it waits for its children here -/
def zl_w (g : zl_G) (l : zl_T) : Prop := zl_e g l ∨ zl_op g l = 9 ∨ zl_op g l = 11
/-- it spawns here -/
def zl_s (g : zl_G) (l : zl_T) : Prop := ¬ zl_e g l ∧ zl_op g l = 8
def zl_k (l : zl_T) : Nat → Nat := fu (zl_cn l) (zl_at l) (zl_cn l (zl_at l) + 1)
def zl_nx (g : zl_G) (o : Nat → zl_O) (l : zl_T) : zl_T :=
  if zl_dn l = true then l
  else if g.2.2.2 (zl_pr l) ≤ zl_pc l then (zl_pr l, zl_pc l, zl_rg l, zl_mx o (zl_ck l) (zl_ow l) (zl_nk l - zl_ow l), zl_nk l, zl_ow l, 0, true, zl_sp l, zl_tl l, zl_cn l, zl_nl l)
  else if zl_op g l = 9 then (zl_pr l, zl_pc l + 1, fu (zl_rg l) (zl_la g l) (zl_fo o (zl_lb g l) (zl_rg l (zl_la g l)) (zl_ow l) (zl_nk l - zl_ow l)), zl_mx o (zl_ck l) (zl_ow l) (zl_nk l - zl_ow l) + 1, zl_nk l, zl_nk l, zl_rs l, false, zl_sp l, zl_tl l, zl_k l, zl_nl l + 1)
  else if zl_op g l = 11 then (zl_pr l, zl_pc l, zl_rg l, zl_mx o (zl_ck l) (zl_ow l) (zl_nk l - zl_ow l) + 1, zl_nk l, zl_ow l, zl_rg l (zl_la g l), true, zl_sp l, zl_tl l, zl_k l, zl_nl l + 1)
  else if zl_op g l = 8 then (zl_pr l, zl_pc l + 1, zl_rg l, zl_ck l + 1, zl_nk l + 1, zl_ow l, zl_rs l, false, fu (zl_sp l) (zl_nk l) (zl_la g l, zl_rg l (zl_lr g l), zl_ck l + 1), zl_tl l, zl_k l, zl_nl l + 1)
  else if zl_op g l = 10 then (zl_pr l, zl_pc l + 1, zl_rg l, zl_ck l + 1, zl_nk l, zl_ow l, zl_rs l, false, zl_sp l, fu (zl_tl l) (zl_la g l) (zl_tl l (zl_la g l) + zl_rg l (zl_lr g l)), zl_k l, zl_nl l + 1)
  else if zl_op g l = 6 then (zl_pr l, (if zl_rg l (zl_la g l) < zl_lb g l then zl_pc l + 1 else zl_pc l + 2), zl_rg l, zl_ck l + 1, zl_nk l, zl_ow l, zl_rs l, false, zl_sp l, zl_tl l, zl_k l, zl_nl l + 1)
  else if zl_op g l = 7 then (zl_pr l, (if zl_rg l (zl_la g l) = zl_lb g l then zl_pc l + 1 else zl_pc l + 2), zl_rg l, zl_ck l + 1, zl_nk l, zl_ow l, zl_rs l, false, zl_sp l, zl_tl l, zl_k l, zl_nl l + 1)
  else (zl_pr l, zl_pc l + 1, fu (zl_rg l) (zl_la g l) (zl_cv (zl_op g l) (zl_rg l (zl_la g l)) (zl_rg l (zl_lr g l)) (zl_lb g l)), zl_ck l + 1, zl_nk l, zl_ow l, zl_rs l, false, zl_sp l, zl_tl l, zl_k l, zl_nl l + 1)
def zl_out (l : zl_T) : zl_O := (zl_rs l, zl_ck l)
def zl_cs (l : zl_T) : Nat := if zl_dn l = true then zl_nk l else zl_ow l
theorem zl_mxc {o o' : Nat → zl_O} : ∀ {n i : Nat} {c : Int32}, (∀ k, i ≤ k → k < i + n → o k = o' k) → zl_mx o c i n = zl_mx o' c i n
  | 0, _, _, _ => rfl
  | n + 1, i, c, h => by
    unfold zl_mx
    rw [h i (Nat.le_refl _) (by omega)]
    exact zl_mxc (fun k h1 h2 => h k (by omega) (by omega))
theorem zl_foc {o o' : Nat → zl_O} {f : Int32} : ∀ {n i : Nat} {c : Int32}, (∀ k, i ≤ k → k < i + n → o k = o' k) → zl_fo o f c i n = zl_fo o' f c i n
  | 0, _, _, _ => rfl
  | n + 1, i, c, h => by
    unfold zl_fo
    rw [h i (Nat.le_refl _) (by omega)]
    exact zl_foc (fun k h1 h2 => h k (by omega) (by omega))
theorem zl_nd {g : zl_G} {o : Nat → zl_O} {l : zl_T} (h : zl_dn l = true) : zl_nx g o l = l := if_pos h
/-- what a step does to the counts, all at once -/
theorem zl_n1 (g : zl_G) (o : Nat → zl_O) (l : zl_T) (h : zl_dn l = false) :
    zl_pr (zl_nx g o l) = zl_pr l ∧
    (zl_s g l → zl_nk (zl_nx g o l) = zl_nk l + 1 ∧ zl_ow (zl_nx g o l) = zl_ow l ∧ zl_dn (zl_nx g o l) = false) ∧
    (¬ zl_s g l → zl_nk (zl_nx g o l) = zl_nk l) ∧
    (zl_w g l → (zl_dn (zl_nx g o l) = true ∧ zl_ow (zl_nx g o l) = zl_ow l) ∨ (zl_dn (zl_nx g o l) = false ∧ zl_ow (zl_nx g o l) = zl_nk l)) ∧
    (¬ zl_w g l → zl_dn (zl_nx g o l) = false ∧ zl_ow (zl_nx g o l) = zl_ow l) ∧
    (∀ k, k < zl_nk l → zl_sp (zl_nx g o l) k = zl_sp l k) := by
  unfold zl_s zl_w zl_e
  unfold zl_nx
  rw [if_neg (by rw [h]; decide)]
  by_cases c0 : g.2.2.2 (zl_pr l) ≤ zl_pc l
  · rw [if_pos c0]
    exact ⟨rfl, fun q => absurd c0 q.1, fun _ => rfl, fun _ => Or.inl ⟨rfl, rfl⟩, fun q => absurd (Or.inl c0) q, fun _ _ => rfl⟩
  rw [if_neg c0]
  by_cases c1 : zl_op g l = 9
  · rw [if_pos c1]
    exact ⟨rfl, fun q => absurd (c1.symm.trans q.2) (by decide), fun _ => rfl, fun _ => Or.inr ⟨rfl, rfl⟩, fun q => absurd (Or.inr (Or.inl c1)) q, fun _ _ => rfl⟩
  rw [if_neg c1]
  by_cases c2 : zl_op g l = 11
  · rw [if_pos c2]
    exact ⟨rfl, fun q => absurd (c2.symm.trans q.2) (by decide), fun _ => rfl, fun _ => Or.inl ⟨rfl, rfl⟩, fun q => absurd (Or.inr (Or.inr c2)) q, fun _ _ => rfl⟩
  rw [if_neg c2]
  have nw : ¬ (g.2.2.2 (zl_pr l) ≤ zl_pc l ∨ zl_op g l = 9 ∨ zl_op g l = 11) := by
    rintro (q | q | q)
    · exact c0 q
    · exact c1 q
    · exact c2 q
  by_cases c3 : zl_op g l = 8
  · rw [if_pos c3]
    exact ⟨rfl, fun _ => ⟨rfl, rfl, rfl⟩, fun q => absurd ⟨c0, c3⟩ q, fun q => absurd q nw, fun _ => ⟨rfl, rfl⟩, fun k hk => fu_n (by omega)⟩
  rw [if_neg c3]
  have ns : ¬ (¬ g.2.2.2 (zl_pr l) ≤ zl_pc l ∧ zl_op g l = 8) := fun q => c3 q.2
  by_cases c4 : zl_op g l = 10
  · rw [if_pos c4]; exact ⟨rfl, fun q => absurd q ns, fun _ => rfl, fun q => absurd q nw, fun _ => ⟨rfl, rfl⟩, fun _ _ => rfl⟩
  rw [if_neg c4]
  by_cases c5 : zl_op g l = 6
  · rw [if_pos c5]; exact ⟨rfl, fun q => absurd q ns, fun _ => rfl, fun q => absurd q nw, fun _ => ⟨rfl, rfl⟩, fun _ _ => rfl⟩
  rw [if_neg c5]
  by_cases c6 : zl_op g l = 7
  · rw [if_pos c6]; exact ⟨rfl, fun q => absurd q ns, fun _ => rfl, fun q => absurd q nw, fun _ => ⟨rfl, rfl⟩, fun _ _ => rfl⟩
  rw [if_neg c6]
  exact ⟨rfl, fun q => absurd q ns, fun _ => rfl, fun q => absurd q nw, fun _ => ⟨rfl, rfl⟩, fun _ _ => rfl⟩
theorem zl_sw {g : zl_G} {l : zl_T} (h : zl_s g l) : ¬ zl_w g l := by
  rintro (q | q | q)
  · exact h.1 q
  · exact absurd (q.symm.trans h.2) (by decide)
  · exact absurd (q.symm.trans h.2) (by decide)
theorem zl_mono (g : zl_G) (o : Nat → zl_O) (l : zl_T) (h : zl_ow l ≤ zl_nk l) : zl_ow (zl_nx g o l) ≤ zl_nk (zl_nx g o l) ∧ zl_nk l ≤ zl_nk (zl_nx g o l) ∧ zl_cs l ≤ zl_cs (zl_nx g o l) ∧ zl_cs (zl_nx g o l) ≤ zl_nk l ∧ (∀ k, k < zl_nk l → zl_sp (zl_nx g o l) k = zl_sp l k) ∧ zl_pr (zl_nx g o l) = zl_pr l := by
  cases hd : zl_dn l with
  | true =>
    rw [zl_nd hd]
    refine ⟨h, Nat.le_refl _, Nat.le_refl _, ?_, fun _ _ => rfl, rfl⟩
    unfold zl_cs; rw [if_pos hd]; exact Nat.le_refl _
  | false =>
    obtain ⟨a1, a2, a3, a4, a5, a6⟩ := zl_n1 g o l hd
    have e1 : zl_cs l = zl_ow l := by unfold zl_cs; rw [hd]; rfl
    rw [e1]
    by_cases hs : zl_s g l
    · obtain ⟨b1, b2, b3⟩ := a2 hs
      have e2 : zl_cs (zl_nx g o l) = zl_ow l := by unfold zl_cs; rw [b3, b2]; rfl
      rw [e2, b1, b2]
      exact ⟨by omega, by omega, Nat.le_refl _, h, a6, a1⟩
    · have b := a3 hs
      by_cases hw : zl_w g l
      · rcases a4 hw with ⟨c1, c2⟩ | ⟨c1, c2⟩
        · have e2 : zl_cs (zl_nx g o l) = zl_nk l := by unfold zl_cs; rw [c1, b]; rfl
          rw [e2, b, c2]
          exact ⟨h, Nat.le_refl _, h, Nat.le_refl _, a6, a1⟩
        · have e2 : zl_cs (zl_nx g o l) = zl_nk l := by unfold zl_cs; rw [c1, c2]; rfl
          rw [e2, b, c2]
          exact ⟨Nat.le_refl _, Nat.le_refl _, h, Nat.le_refl _, a6, a1⟩
      · obtain ⟨c1, c2⟩ := a5 hw
        have e2 : zl_cs (zl_nx g o l) = zl_ow l := by unfold zl_cs; rw [c1, c2]; rfl
        rw [e2, b, c2]
        exact ⟨h, Nat.le_refl _, Nat.le_refl _, h, a6, a1⟩
/-- a step asks the children's ends only where it waits -/
theorem zl_fr0 {g : zl_G} {o o' : Nat → zl_O} {l : zl_T} (h : zl_w g l → ∀ k, zl_ow l ≤ k → k < zl_nk l → o k = o' k) : zl_nx g o l = zl_nx g o' l := by
  unfold zl_nx
  by_cases cd : zl_dn l = true
  · rw [if_pos cd, if_pos cd]
  rw [if_neg cd, if_neg cd]
  have H : zl_w g l → zl_mx o (zl_ck l) (zl_ow l) (zl_nk l - zl_ow l) = zl_mx o' (zl_ck l) (zl_ow l) (zl_nk l - zl_ow l) ∧ ∀ r f, zl_fo o f r (zl_ow l) (zl_nk l - zl_ow l) = zl_fo o' f r (zl_ow l) (zl_nk l - zl_ow l) := by
    intro hw
    exact ⟨zl_mxc (fun k h1 h2 => h hw k h1 (by omega)), fun r f => zl_foc (fun k h1 h2 => h hw k h1 (by omega))⟩
  by_cases c0 : g.2.2.2 (zl_pr l) ≤ zl_pc l
  · rw [if_pos c0, if_pos c0, (H (Or.inl c0)).1]
  rw [if_neg c0, if_neg c0]
  by_cases c1 : zl_op g l = 9
  · rw [if_pos c1, if_pos c1, (H (Or.inr (Or.inl c1))).1, (H (Or.inr (Or.inl c1))).2]
  rw [if_neg c1, if_neg c1]
  by_cases c2 : zl_op g l = 11
  · rw [if_pos c2, if_pos c2, (H (Or.inr (Or.inr c2))).1]
  rw [if_neg c2, if_neg c2]
theorem zl_fr {g : zl_G} {o o' : Nat → zl_O} {l : zl_T} (hl : zl_ow l ≤ zl_nk l) (h : ∀ k, k < zl_cs (zl_nx g o l) → o k = o' k) : zl_nx g o l = zl_nx g o' l := by
  cases hd : zl_dn l with
  | true => rw [zl_nd hd, zl_nd hd]
  | false =>
    refine zl_fr0 (fun hw k h1 h2 => h k ?_)
    obtain ⟨a1, a2, a3, a4, a5, a6⟩ := zl_n1 g o l hd
    have b := a3 (fun q => zl_sw q hw)
    rcases a4 hw with ⟨c1, c2⟩ | ⟨c1, c2⟩
    · unfold zl_cs; rw [if_pos c1]; omega
    · unfold zl_cs; rw [c1, if_neg (by decide)]; omega
/-- a task's states, one line after another, when its k-th child ends with o k -/
def zl_rn (g : zl_G) (p : zl_P) (o : Nat → zl_O) : Nat → zl_T
  | 0 => zl_ini p
  | j + 1 => zl_nx g o (zl_rn g p o j)
theorem zl_rok (g : zl_G) (p : zl_P) (o : Nat → zl_O) : ∀ j, zl_ow (zl_rn g p o j) ≤ zl_nk (zl_rn g p o j)
  | 0 => Nat.le_refl _
  | j + 1 => (zl_mono g o _ (zl_rok g p o j)).1
theorem zl_rpr (g : zl_G) (p : zl_P) (o : Nat → zl_O) : ∀ j, zl_pr (zl_rn g p o j) = p.1
  | 0 => rfl
  | j + 1 => (zl_mono g o _ (zl_rok g p o j)).2.2.2.2.2.trans (zl_rpr g p o j)
theorem zl_rm (g : zl_G) (p : zl_P) (o : Nat → zl_O) (i : Nat) : ∀ d, zl_nk (zl_rn g p o i) ≤ zl_nk (zl_rn g p o (i + d)) ∧ zl_cs (zl_rn g p o i) ≤ zl_cs (zl_rn g p o (i + d)) ∧ (∀ k, k < zl_nk (zl_rn g p o i) → zl_sp (zl_rn g p o (i + d)) k = zl_sp (zl_rn g p o i) k)
  | 0 => ⟨Nat.le_refl _, Nat.le_refl _, fun _ _ => rfl⟩
  | d + 1 => by
    obtain ⟨a, b, c⟩ := zl_rm g p o i d
    obtain ⟨_, x2, x3, _, x5, _⟩ := zl_mono g o _ (zl_rok g p o (i + d))
    exact ⟨Nat.le_trans a x2, Nat.le_trans b x3, fun k hk => (x5 k (by omega)).trans (c k hk)⟩
theorem zl_rd {g : zl_G} {p : zl_P} {o : Nat → zl_O} {i : Nat} (h : zl_dn (zl_rn g p o i) = true) : ∀ d, zl_rn g p o (i + d) = zl_rn g p o i
  | 0 => rfl
  | d + 1 => by
    show zl_nx g o (zl_rn g p o (i + d)) = _
    rw [zl_rd h d]; exact zl_nd h
/-- two ends of one run -/
theorem zl_ru {g : zl_G} {p : zl_P} {o : Nat → zl_O} {i j : Nat} (hi : zl_dn (zl_rn g p o i) = true) (hj : zl_dn (zl_rn g p o j) = true) : zl_rn g p o i = zl_rn g p o j := by
  rcases Nat.le_total i j with h | h
  · obtain ⟨d, rfl⟩ := Nat.le.dest h; exact (zl_rd hi d).symm
  · obtain ⟨d, rfl⟩ := Nat.le.dest h; exact zl_rd hj d
/-- any state of a run against its end -/
theorem zl_rx {g : zl_G} {p : zl_P} {o : Nat → zl_O} {i j : Nat} (hj : zl_dn (zl_rn g p o j) = true) : zl_nk (zl_rn g p o i) ≤ zl_nk (zl_rn g p o j) ∧ (∀ k, k < zl_nk (zl_rn g p o i) → zl_sp (zl_rn g p o j) k = zl_sp (zl_rn g p o i) k) := by
  rcases Nat.le_total i j with h | h
  · obtain ⟨d, rfl⟩ := Nat.le.dest h
    exact ⟨(zl_rm g p o i d).1, (zl_rm g p o i d).2.2⟩
  · obtain ⟨d, rfl⟩ := Nat.le.dest h
    rw [zl_rd hj d]; exact ⟨Nat.le_refl _, fun _ _ => rfl⟩
/-- a run is the same for other ends of children that it has not asked -/
theorem zl_rf {g : zl_G} {p : zl_P} {o o' : Nat → zl_O} : ∀ {j : Nat}, (∀ k, k < zl_cs (zl_rn g p o j) → o k = o' k) → zl_rn g p o j = zl_rn g p o' j
  | 0, _ => rfl
  | j + 1, h => by
    have m := zl_mono g o _ (zl_rok g p o j)
    have ih := zl_rf (g := g) (p := p) (o := o) (o' := o') (j := j) (fun k hk => h k (Nat.lt_of_lt_of_le hk m.2.2.1))
    show zl_nx g o (zl_rn g p o j) = zl_nx g o' (zl_rn g p o' j)
    rw [← ih]
    exact zl_fr (zl_rok g p o j) h
end
end
section
/-! a table of tasks (any order of making that puts parents first), and that two tables of one root agree -/
section
def zg_G (g : zl_G) (m : Nat) (st : Nat → zl_T) (par kx : Nat → Nat) (kid : Nat → Nat → Nat) (pm : Nat → zl_P) : Prop :=
  0 < m ∧
  (∀ t, 0 < t → t < m → par t < t ∧ kx t < zl_nk (st (par t)) ∧ kid (par t) (kx t) = t) ∧
  (∀ t k, t < m → k < zl_nk (st t) → t < kid t k ∧ kid t k < m ∧ par (kid t k) = t ∧ kx (kid t k) = k ∧ pm (kid t k) = zl_sp (st t) k) ∧
  (∀ t k, t < m → k + 1 < zl_nk (st t) → kid t k < kid t (k + 1)) ∧
  (∀ t, t < m → ∃ (o : Nat → zl_O) (j : Nat), st t = zl_rn g (pm t) o j ∧ ∀ k, k < zl_cs (st t) → zl_dn (st (kid t k)) = true ∧ o k = zl_out (st (kid t k)))
def zg_o (st : Nat → zl_T) (kid : Nat → Nat → Nat) (t : Nat) : Nat → zl_O := fun k => zl_out (st (kid t k))
theorem zg_ok {g : zl_G} {m : Nat} {st : Nat → zl_T} {par kx : Nat → Nat} {kid : Nat → Nat → Nat} {pm : Nat → zl_P} (G : zg_G g m st par kx kid pm) {t : Nat} (ht : t < m) : zl_ow (st t) ≤ zl_nk (st t) ∧ zl_pr (st t) = (pm t).1 := by
  obtain ⟨o, j, e, _⟩ := G.2.2.2.2 t ht
  rw [e]; exact ⟨zl_rok _ _ _ _, zl_rpr _ _ _ _⟩
theorem zg_0 (g : zl_G) (p : zl_P) {st : Nat → zl_T} (h : st 0 = zl_ini p) (par kx : Nat → Nat) (kid : Nat → Nat → Nat) {pm : Nat → zl_P} (hp : pm 0 = p) : zg_G g 1 st par kx kid pm := by
  refine ⟨by decide, fun t h1 h2 => absurd h1 (by omega), ?_, ?_, ?_⟩
  · intro t k ht hk
    have : t = 0 := by omega
    subst this
    rw [h] at hk
    exact absurd hk (Nat.not_lt_zero _)
  · intro t k ht hk
    have : t = 0 := by omega
    subst this
    rw [h] at hk
    exact absurd hk (Nat.not_lt_zero _)
  · intro t ht
    have : t = 0 := by omega
    subst this
    refine ⟨fun _ => (0, 0), 0, ?_, ?_⟩
    · rw [hp]; exact h
    · rw [h]; intro k hk; exact absurd hk (Nat.not_lt_zero _)
/-- a line that spawns nothing -/
theorem zg_1 {g : zl_G} {m : Nat} {st : Nat → zl_T} {par kx : Nat → Nat} {kid : Nat → Nat → Nat} {pm : Nat → zl_P} (G : zg_G g m st par kx kid pm) {t : Nat} (ht : t < m) (hd : zl_dn (st t) = false) (hs : ¬ zl_s g (st t)) (hw : zl_w g (st t) → ∀ k, zl_ow (st t) ≤ k → k < zl_nk (st t) → zl_dn (st (kid t k)) = true) : zg_G g m (fu st t (zl_nx g (zg_o st kid t) (st t))) par kx kid pm := by
  obtain ⟨G0, G1, G2, G3, G4⟩ := G
  have n1 := zl_n1 g (zg_o st kid t) (st t) hd
  have en : zl_nk (zl_nx g (zg_o st kid t) (st t)) = zl_nk (st t) := n1.2.2.1 hs
  have enk : ∀ a, zl_nk (fu st t (zl_nx g (zg_o st kid t) (st t)) a) = zl_nk (st a) := by
    intro a; unfold fu; split
    · next h => rw [h]; exact en
    · rfl
  refine ⟨G0, ?_, ?_, ?_, ?_⟩
  · intro a h1 h2; rw [enk]; exact G1 a h1 h2
  · intro a k ha hk
    rw [enk] at hk
    obtain ⟨x1, x2, x3, x4, x5⟩ := G2 a k ha hk
    refine ⟨x1, x2, x3, x4, x5.trans ?_⟩
    unfold fu; split
    · next h => subst h; exact (n1.2.2.2.2.2 k hk).symm
    · rfl
  · intro a k ha hk; rw [enk] at hk; exact G3 a k ha hk
  · intro a ha
    obtain ⟨o, j, e, ho⟩ := G4 a ha
    by_cases q : a = t
    · subst q
      have e2 : zl_rn g (pm a) o j = zl_rn g (pm a) (zg_o st kid a) j := zl_rf (fun k hk => (ho k (by rw [e]; exact hk)).2)
      have ok : zl_ow (st a) ≤ zl_nk (st a) := by rw [e]; exact zl_rok _ _ _ _
      refine ⟨zg_o st kid a, j + 1, ?_, ?_⟩
      · rw [fu_s]
        show _ = zl_nx g (zg_o st kid a) (zl_rn g (pm a) (zg_o st kid a) j)
        rw [← e2, ← e]
      · rw [fu_s]
        intro k hk
        have hk2 : k < zl_nk (st a) := Nat.lt_of_lt_of_le hk (zl_mono g _ _ ok).2.2.2.1
        have gt := (G2 a k ha hk2).1
        rw [fu_n (by omega)]
        refine ⟨?_, rfl⟩
        rcases Nat.lt_or_ge k (zl_cs (st a)) with z | z
        · exact (ho k z).1
        · have ec : zl_cs (st a) = zl_ow (st a) := by unfold zl_cs; rw [hd]; rfl
          by_cases w : zl_w g (st a)
          · exact hw w k (by omega) hk2
          · obtain ⟨c1, c2⟩ := n1.2.2.2.2.1 w
            have : zl_cs (zl_nx g (zg_o st kid a) (st a)) = zl_ow (st a) := by unfold zl_cs; rw [c1, c2]; rfl
            omega
    · refine ⟨o, j, ?_, ?_⟩
      · rw [fu_n q]; exact e
      · rw [fu_n q]
        intro k hk
        obtain ⟨d1, d2⟩ := ho k hk
        have : kid a k ≠ t := by intro z; rw [z, hd] at d1; exact absurd d1 (by decide)
        rw [fu_n this]; exact ⟨d1, d2⟩
def zg_k (kid : Nat → Nat → Nat) (t n m : Nat) : Nat → Nat → Nat := fun a b => if a = t ∧ b = n then m else kid a b
theorem zg_ks {kid : Nat → Nat → Nat} {t n m : Nat} : zg_k kid t n m t n = m := if_pos ⟨rfl, rfl⟩
theorem zg_kn {kid : Nat → Nat → Nat} {t n m a b : Nat} (h : ¬ (a = t ∧ b = n)) : zg_k kid t n m a b = kid a b := if_neg h
/-- a line that spawns: the new task has the number m -/
theorem zg_2 {g : zl_G} {m : Nat} {st : Nat → zl_T} {par kx : Nat → Nat} {kid : Nat → Nat → Nat} {pm : Nat → zl_P} (G : zg_G g m st par kx kid pm) {t : Nat} (ht : t < m) (hd : zl_dn (st t) = false) (hs : zl_s g (st t)) (o0 : Nat → zl_O) : zg_G g (m + 1) (fu (fu st t (zl_nx g o0 (st t))) m (zl_ini (zl_la g (st t), zl_rg (st t) (zl_lr g (st t)), zl_ck (st t) + 1))) (fu par m t) (fu kx m (zl_nk (st t))) (zg_k kid t (zl_nk (st t)) m) (fu pm m (zl_la g (st t), zl_rg (st t) (zl_lr g (st t)), zl_ck (st t) + 1)) := by
  obtain ⟨G0, G1, G2, G3, G4⟩ := G
  have n1 := zl_n1 g o0 (st t) hd
  obtain ⟨en, eo, ed⟩ := n1.2.1 hs
  have nw := zl_sw hs
  have es : zl_sp (zl_nx g o0 (st t)) (zl_nk (st t)) = (zl_la g (st t), zl_rg (st t) (zl_lr g (st t)), zl_ck (st t) + 1) := by
    unfold zl_nx
    have h0 : ¬ g.2.2.2 (zl_pr (st t)) ≤ zl_pc (st t) := hs.1
    have h1 : ¬ zl_op g (st t) = 9 := fun q => nw (Or.inr (Or.inl q))
    have h2 : ¬ zl_op g (st t) = 11 := fun q => nw (Or.inr (Or.inr q))
    rw [if_neg (by rw [hd]; decide), if_neg h0, if_neg h1, if_neg h2, if_pos hs.2]
    exact fu_s
  have hl : ∀ o, zl_nx g o (st t) = zl_nx g o0 (st t) := fun o => zl_fr0 (fun w => absurd w nw)
  generalize zl_nx g o0 (st t) = l' at *
  generalize (zl_la g (st t), zl_rg (st t) (zl_lr g (st t)), zl_ck (st t) + 1) = p at *
  have S0 : ∀ a, a < m → a ≠ t → fu (fu st t l') m (zl_ini p) a = st a := fun a h1 h2 => by rw [fu_n (by omega), fu_n h2]
  have St : fu (fu st t l') m (zl_ini p) t = l' := by rw [fu_n (by omega), fu_s]
  have Sm : fu (fu st t l') m (zl_ini p) m = zl_ini p := fu_s
  refine ⟨by omega, ?_, ?_, ?_, ?_⟩
  · intro a h1 h2
    by_cases q : a = m
    · subst q
      rw [fu_s, fu_s, St, zg_ks, en]
      exact ⟨ht, by omega, rfl⟩
    · rw [fu_n q, fu_n q]
      obtain ⟨x1, x2, x3⟩ := G1 a h1 (by omega)
      refine ⟨x1, ?_, ?_⟩
      · by_cases r : par a = t
        · rw [r, St, en]; rw [r] at x2; omega
        · rw [S0 _ (by omega) r]; exact x2
      · rw [zg_kn]
        · exact x3
        · rintro ⟨r1, r2⟩; rw [r1] at x2; omega
  · intro a k ha hk
    by_cases q : a = m
    · subst q; rw [Sm] at hk; exact absurd hk (Nat.not_lt_zero _)
    · have ha' : a < m := by omega
      by_cases r : a = t ∧ k = zl_nk (st t)
      · obtain ⟨rfl, rfl⟩ := r
        rw [zg_ks, fu_s, fu_s, fu_s, St, es]
        exact ⟨ht, by omega, rfl, rfl, rfl⟩
      · have hk' : k < zl_nk (st a) := by
          by_cases r2 : a = t
          · subst r2; rw [St, en] at hk
            have : k ≠ zl_nk (st a) := fun z => r ⟨rfl, z⟩
            omega
          · rw [S0 a ha' r2] at hk; exact hk
        obtain ⟨x1, x2, x3, x4, x5⟩ := G2 a k ha' hk'
        rw [zg_kn r, fu_n (by omega), fu_n (by omega), fu_n (by omega)]
        refine ⟨x1, by omega, x3, x4, x5.trans ?_⟩
        by_cases r2 : a = t
        · subst r2; rw [St]; exact (n1.2.2.2.2.2 k hk').symm
        · rw [S0 a ha' r2]
  · intro a k ha hk
    by_cases q : a = m
    · subst q; rw [Sm] at hk; exact absurd hk (Nat.not_lt_zero _)
    · have ha' : a < m := by omega
      by_cases r2 : a = t
      · subst r2
        rw [St, en] at hk
        rw [zg_kn (b := k) (by rintro ⟨_, z⟩; omega)]
        by_cases r : k + 1 = zl_nk (st a)
        · rw [r, zg_ks]
          exact (G2 a k ha' (by omega)).2.1
        · rw [zg_kn (by rintro ⟨_, z⟩; exact r z)]
          exact G3 a k ha' (by omega)
      · rw [S0 a ha' r2] at hk
        rw [zg_kn (fun z => r2 z.1), zg_kn (fun z => r2 z.1)]
        exact G3 a k ha' hk
  · intro a ha
    by_cases q : a = m
    · subst q
      refine ⟨fun _ => (0, 0), 0, ?_, ?_⟩
      · rw [Sm, fu_s]; rfl
      · rw [Sm]; intro k hk; exact absurd hk (Nat.not_lt_zero _)
    · have ha' : a < m := by omega
      rw [fu_n (f := pm) q]
      obtain ⟨o, j, e, ho⟩ := G4 a ha'
      have KD : ∀ k, k < zl_cs (st a) → zl_dn (fu (fu st t l') m (zl_ini p) (zg_k kid t (zl_nk (st t)) m a k)) = true ∧ o k = zl_out (fu (fu st t l') m (zl_ini p) (zg_k kid t (zl_nk (st t)) m a k)) := by
        intro k hk
        obtain ⟨d1, d2⟩ := ho k hk
        have ok : zl_cs (st a) ≤ zl_nk (st a) := by
          have : zl_ow (st a) ≤ zl_nk (st a) := by rw [e]; exact zl_rok _ _ _ _
          unfold zl_cs; split <;> omega
        have r : ¬ (a = t ∧ k = zl_nk (st t)) := by rintro ⟨rfl, rfl⟩; omega
        rw [zg_kn r]
        have lt := (G2 a k ha' (by omega)).2.1
        have ne : kid a k ≠ t := by intro z; rw [z, hd] at d1; exact absurd d1 (by decide)
        rw [S0 _ lt ne]; exact ⟨d1, d2⟩
      by_cases r2 : a = t
      · subst r2
        have ec : zl_cs (st a) = zl_ow (st a) := by unfold zl_cs; rw [hd]; rfl
        have ec' : zl_cs l' = zl_ow (st a) := by unfold zl_cs; rw [ed, eo]; rfl
        rw [St]
        refine ⟨o, j + 1, ?_, fun k hk => KD k (by omega)⟩
        show l' = zl_nx g o (zl_rn g (pm a) o j)
        rw [← e]; exact (hl o).symm
      · rw [S0 a ha' r2]
        exact ⟨o, j, e, KD⟩
end
end
section
/-! two tables of one root -/
section
variable {g : zl_G} {m m' : Nat} {st st' : Nat → zl_T} {par par' kx kx' : Nat → Nat} {kid kid' : Nat → Nat → Nat} {pm pm' : Nat → zl_P}
theorem zq_c (C : zg_G g m' st' par' kx' kid' pm') (D : ∀ c, c < m' → zl_dn (st' c) = true) {c : Nat} (hc : c < m') : ∃ J, st' c = zl_rn g (pm' c) (zg_o st' kid' c) J := by
  obtain ⟨o, J, e, h⟩ := C.2.2.2.2 c hc
  exact ⟨J, e.trans (zl_rf (fun k hk => (h k (by rw [e]; exact hk)).2))⟩
theorem zq_a (Q : zg_G g m st par kx kid pm) (C : zg_G g m' st' par' kx' kid' pm') (D : ∀ c, c < m' → zl_dn (st' c) = true) : ∀ d t, m - t ≤ d → t < m → ∀ c, c < m' → pm t = pm' c → ∃ j, st t = zl_rn g (pm' c) (zg_o st' kid' c) j := by
  intro d
  induction d with
  | zero => intro t h1 h2; omega
  | succ d ih =>
    intro t h1 h2 c hc ep
    obtain ⟨o, j, e, ho⟩ := Q.2.2.2.2 t h2
    obtain ⟨J, eJ⟩ := zq_c C D hc
    have dJ : zl_dn (zl_rn g (pm' c) (zg_o st' kid' c) J) = true := by rw [← eJ]; exact D c hc
    refine ⟨j, ?_⟩
    rw [e, ep]
    rw [ep] at e
    have key : ∀ i, i ≤ j → zl_rn g (pm' c) o i = zl_rn g (pm' c) (zg_o st' kid' c) i := by
      intro i
      induction i with
      | zero => intro _; rfl
      | succ i ihi =>
        intro hi
        have e1 := ihi (by omega)
        show zl_nx g o (zl_rn g (pm' c) o i) = zl_nx g (zg_o st' kid' c) (zl_rn g (pm' c) (zg_o st' kid' c) i)
        rw [← e1]
        have ok := zl_rok g (pm' c) o i
        refine zl_fr ok (fun k hk => ?_)
        have hk1 : k < zl_nk (zl_rn g (pm' c) o i) := Nat.lt_of_lt_of_le hk (zl_mono g o _ ok).2.2.2.1
        obtain ⟨d1, rfl⟩ := Nat.le.dest hi
        have hk2 : k < zl_cs (st t) := by rw [e]; exact Nat.lt_of_lt_of_le hk (zl_rm g (pm' c) o (i + 1) d1).2.1
        obtain ⟨kd, ko⟩ := ho k hk2
        have mm := zl_rm g (pm' c) o i (1 + d1)
        rw [← Nat.add_assoc, ← e] at mm
        have hk3 : k < zl_nk (st t) := Nat.lt_of_lt_of_le hk1 mm.1
        obtain ⟨q1, q2, q3, q4, q5⟩ := Q.2.2.1 t k h2 hk3
        have xx := zl_rx (i := i) dJ
        rw [← eJ, ← e1] at xx
        have hk4 : k < zl_nk (st' c) := Nat.lt_of_lt_of_le hk1 xx.1
        obtain ⟨r1, r2, r3, r4, r5⟩ := C.2.2.1 c k hc hk4
        have ep' : pm (kid t k) = pm' (kid' c k) := by rw [q5, r5, mm.2.2 k hk1, xx.2 k hk1]
        obtain ⟨j2, e2⟩ := ih (kid t k) (by omega) q2 (kid' c k) r2 ep'
        obtain ⟨J2, eJ2⟩ := zq_c C D r2
        have : st (kid t k) = st' (kid' c k) := by
          rw [e2, eJ2]
          exact zl_ru (by rw [← e2]; exact kd) (by rw [← eJ2]; exact D _ r2)
        rw [ko]
        show zl_out (st (kid t k)) = zl_out (st' (kid' c k))
        rw [this]
    exact key j (Nat.le_refl _)
/-- what a task of a table says of the finished task with the same beginning -/
theorem zq_b (Q : zg_G g m st par kx kid pm) (C : zg_G g m' st' par' kx' kid' pm') (D : ∀ c, c < m' → zl_dn (st' c) = true) {t c : Nat} (ht : t < m) (hc : c < m') (ep : pm t = pm' c) : (zl_dn (st t) = true → st t = st' c) ∧ zl_nk (st t) ≤ zl_nk (st' c) ∧ (∀ k, k < zl_nk (st t) → zl_sp (st' c) k = zl_sp (st t) k) := by
  obtain ⟨j, e⟩ := zq_a Q C D (m - t) t (Nat.le_refl _) ht c hc ep
  obtain ⟨J, eJ⟩ := zq_c C D hc
  have dJ : zl_dn (zl_rn g (pm' c) (zg_o st' kid' c) J) = true := by rw [← eJ]; exact D c hc
  have x := zl_rx (i := j) dJ
  rw [← e, ← eJ] at x
  refine ⟨fun h => ?_, x.1, x.2⟩
  rw [e, eJ]
  exact zl_ru (by rw [← e]; exact h) dJ
theorem zq_f (Q : zg_G g m st par kx kid pm) (C : zg_G g m' st' par' kx' kid' pm') (D : ∀ c, c < m' → zl_dn (st' c) = true) (e0 : pm 0 = pm' 0) : ∀ n, n ≤ m → ∃ φ : Nat → Nat, φ 0 = 0 ∧ (∀ t, t < n → φ t < m' ∧ pm t = pm' (φ t)) ∧ (∀ t, 0 < t → t < n → φ t = kid' (φ (par t)) (kx t)) := by
  intro n
  induction n with
  | zero => intro _; exact ⟨fun _ => 0, rfl, fun t h => absurd h (by omega), fun t _ h => absurd h (by omega)⟩
  | succ n ih =>
    intro hn
    obtain ⟨φ, f0, f1, f2⟩ := ih (by omega)
    rcases Nat.eq_zero_or_pos n with z | z
    · subst z
      refine ⟨φ, f0, fun t ht => ?_, fun t h1 h2 => absurd h2 (by omega)⟩
      have : t = 0 := by omega
      subst this
      rw [f0]; exact ⟨C.1, e0⟩
    · obtain ⟨a1, a2, a3⟩ := Q.2.1 n z (by omega)
      obtain ⟨b1, b2⟩ := f1 (par n) a1
      obtain ⟨c1, c2, c3⟩ := zq_b Q C D (t := par n) (c := φ (par n)) (by omega) b1 b2
      obtain ⟨r1, r2, r3, r4, r5⟩ := C.2.2.1 (φ (par n)) (kx n) b1 (by omega)
      obtain ⟨q1, q2, q3, q4, q5⟩ := Q.2.2.1 (par n) (kx n) (by omega) a2
      refine ⟨fu φ n (kid' (φ (par n)) (kx n)), by rw [fu_n (by omega)]; exact f0, ?_, ?_⟩
      · intro t ht
        by_cases q : t = n
        · subst q
          rw [fu_s, r5]
          rw [a3] at q5
          exact ⟨r2, q5.trans (c3 _ a2).symm⟩
        · rw [fu_n q]; exact f1 t (by omega)
      · intro t h1 h2
        by_cases q : t = n
        · subst q; rw [fu_s, fu_n (by omega)]
        · have := (Q.2.1 t h1 (by omega)).1
          rw [fu_n q, fu_n (by omega)]; exact f2 t h1 (by omega)
theorem zq_i (Q : zg_G g m st par kx kid pm) (C : zg_G g m' st' par' kx' kid' pm') (D : ∀ c, c < m' → zl_dn (st' c) = true) {φ : Nat → Nat} (f0 : φ 0 = 0) (f1 : ∀ t, t < m → φ t < m' ∧ pm t = pm' (φ t)) (f2 : ∀ t, 0 < t → t < m → φ t = kid' (φ (par t)) (kx t)) : (∀ t, 0 < t → t < m → 0 < φ t ∧ par' (φ t) = φ (par t) ∧ kx' (φ t) = kx t) ∧ (∀ i j, i < m → j < m → φ i = φ j → i = j) := by
  have A : ∀ t, 0 < t → t < m → 0 < φ t ∧ par' (φ t) = φ (par t) ∧ kx' (φ t) = kx t := by
    intro t h1 h2
    obtain ⟨a1, a2, a3⟩ := Q.2.1 t h1 h2
    obtain ⟨b1, b2⟩ := f1 (par t) (by omega)
    obtain ⟨c1, c2, c3⟩ := zq_b Q C D (t := par t) (c := φ (par t)) (by omega) b1 b2
    obtain ⟨r1, r2, r3, r4, r5⟩ := C.2.2.1 (φ (par t)) (kx t) b1 (by omega)
    rw [f2 t h1 h2]
    exact ⟨by omega, r3, r4⟩
  refine ⟨A, ?_⟩
  have B : ∀ n i j, i < n → i < m → j < m → φ i = φ j → i = j := by
    intro n
    induction n with
    | zero => intro i j h; omega
    | succ n ih =>
      intro i j hn hi hj e
      rcases Nat.eq_zero_or_pos i with zi | zi
      · rcases Nat.eq_zero_or_pos j with zj | zj
        · omega
        · have := (A j zj hj).1; rw [zi, f0] at e; omega
      · rcases Nat.eq_zero_or_pos j with zj | zj
        · have := (A i zi hi).1; rw [zj, f0] at e; omega
        · obtain ⟨x1, x2, x3⟩ := A i zi hi
          obtain ⟨y1, y2, y3⟩ := A j zj hj
          obtain ⟨a1, a2, a3⟩ := Q.2.1 i zi hi
          obtain ⟨b1, b2, b3⟩ := Q.2.1 j zj hj
          have p := ih (par i) (par j) (by omega) (by omega) (by omega) (by rw [← x2, ← y2, e])
          rw [← a3, ← b3, p, ← x3, ← y3, e]
  exact fun i j hi hj e => B (i + 1) i j (by omega) hi hj e
/-- no table of the root is larger than a finished one -/
theorem zq_m (Q : zg_G g m st par kx kid pm) (C : zg_G g m' st' par' kx' kid' pm') (D : ∀ c, c < m' → zl_dn (st' c) = true) (e0 : pm 0 = pm' 0) : m ≤ m' := by
  obtain ⟨φ, f0, f1, f2⟩ := zq_f Q C D e0 m (Nat.le_refl _)
  exact pg_h (fun i hi => (f1 i hi).1) (zq_i Q C D f0 f1 f2).2
/-- and one that stands at a line that spawns is smaller -/
theorem zq_n (Q : zg_G g m st par kx kid pm) (C : zg_G g m' st' par' kx' kid' pm') (D : ∀ c, c < m' → zl_dn (st' c) = true) (e0 : pm 0 = pm' 0) {t : Nat} (ht : t < m) (hd : zl_dn (st t) = false) (hs : zl_s g (st t)) : m < m' := by
  have Q2 := zg_2 Q ht hd hs (fun _ => (0, 0))
  exact zq_m Q2 C D (by rw [fu_n (by have := Q.1; omega)]; exact e0)
/-- two finished tables are the same up to the numbering -/
theorem zq_z (Q : zg_G g m st par kx kid pm) (C : zg_G g m' st' par' kx' kid' pm') (D' : ∀ c, c < m → zl_dn (st c) = true) (D : ∀ c, c < m' → zl_dn (st' c) = true) (e0 : pm 0 = pm' 0) : m = m' ∧ ∃ φ : Nat → Nat, φ 0 = 0 ∧ (∀ t, t < m → φ t < m ∧ pm t = pm' (φ t) ∧ st t = st' (φ t)) ∧ (∀ i j, i < m → j < m → φ i = φ j → i = j) ∧ (∀ j, j < m → ∃ i, i < m ∧ φ i = j) ∧ (∀ t, 0 < t → t < m → 0 < φ t ∧ par' (φ t) = φ (par t) ∧ kx' (φ t) = kx t) ∧ (∀ t k, t < m → k < zl_nk (st t) → φ (kid t k) = kid' (φ t) k) := by
  have em : m = m' := Nat.le_antisymm (zq_m Q C D e0) (zq_m C Q D' e0.symm)
  subst em
  obtain ⟨φ, f0, f1, f2⟩ := zq_f Q C D e0 m (Nat.le_refl _)
  obtain ⟨A, B⟩ := zq_i Q C D f0 f1 f2
  have S : ∀ t, t < m → st t = st' (φ t) := fun t ht => (zq_b Q C D ht (f1 t ht).1 (f1 t ht).2).1 (D' t ht)
  have K : ∀ t k, t < m → k < zl_nk (st t) → φ (kid t k) = kid' (φ t) k := by
    intro t k ht hk
    obtain ⟨q1, q2, q3, q4, q5⟩ := Q.2.2.1 t k ht hk
    rw [f2 _ (by omega) q2, q3, q4]
  refine ⟨rfl, φ, f0, fun t ht => ⟨(f1 t ht).1, (f1 t ht).2, S t ht⟩, B, ?_, A, K⟩
  have T : ∀ n j, j < n → j < m → ∃ i, i < m ∧ φ i = j := by
    intro n
    induction n with
    | zero => intro j h; omega
    | succ n ih =>
      intro j hn hj
      rcases Nat.eq_zero_or_pos j with z | z
      · exact ⟨0, Q.1, by rw [f0, z]⟩
      · obtain ⟨a1, a2, a3⟩ := C.2.1 j z hj
        obtain ⟨i, hi, e⟩ := ih (par' j) (by omega) (by omega)
        have hk : kx' j < zl_nk (st i) := by rw [S i hi, e]; exact a2
        exact ⟨kid i (kx' j), (Q.2.2.1 i _ hi hk).2.1, by rw [K i _ hi hk, e, a3]⟩
  exact fun j hj => T (j + 1) j (by omega) hj
end
end
section
/-! the scheduler's data: workers, rings, held lists, and where each task is.
 lo t: 0 ended and told, 1 waiting, 10+w in hand of w, 20+w being pushed or popped by w, 100+4i+w in ring w at i, 1000+4i+w set aside by w at depth i.
 Phases 20 (nothing in hand) and 21 (a task got, not yet in hand) are between two writes of one turn. -/
section
def ds_ix (rg w : Nat) (i : Int) : Nat := 8 * w + i.toNat % rg
def ds_W (rg m ph : Nat) (tp bt sb st vb tb : Int) : Prop :=
  ph ≤ 21 ∧ 0 ≤ tp ∧ tp ≤ tb ∧ tb ≤ vb ∧ vb ≤ tp + rg ∧ vb ≤ 7 + m ∧ ((ph = 15 ∨ 10 ≤ ph ∧ ph ≤ 13) → vb + 1 ≤ 7 + m) ∧
  (2 ≤ ph ∧ ph ≤ 5 → vb = sb + 1 ∧ bt = sb) ∧ (ph < 2 ∨ 5 < ph → vb = bt) ∧
  (ph = 3 ∧ st < sb → tb = sb) ∧ (¬ (ph = 3 ∧ st < sb) → tb = vb) ∧
  (ph = 1 → sb = bt - 1) ∧ (ph = 3 → st ≤ sb ∧ 0 ≤ st ∧ st ≤ tp) ∧ (ph = 4 → st = sb ∧ st ≤ tp) ∧ (ph = 5 → tp = vb) ∧ (6 ≤ ph ∧ ph ≤ 9 → tp = vb) ∧ (11 ≤ ph ∧ ph ≤ 13 → sb = bt) ∧ (12 ≤ ph ∧ ph ≤ 13 → sb < tp + rg)
def ds_V (rg wc ph : Nat) (st : Int) (pv it : Nat) (tp tb : Nat → Int) (sl : Nat → Nat) : Prop :=
  (6 ≤ ph ∧ ph ≤ 9 → pv < wc) ∧ (7 ≤ ph ∧ ph ≤ 9 → 0 ≤ st ∧ st ≤ tp pv) ∧ (8 ≤ ph ∧ ph ≤ 9 → st = tp pv → st < tb pv) ∧ (ph = 9 → st = tp pv → it = sl (ds_ix rg pv st))
def ds_I (ph it : Nat) : Prop := ph = 15 ∨ (10 ≤ ph ∧ ph ≤ 13) ∨ ph = 21 ∨ (ph = 5 ∧ it ≠ 99)
def ds_H (ph : Nat) : Prop := 10 ≤ ph ∧ ph ≤ 19
def ds_D (rg wc m : Nat) (ph : Nat → Nat) (tp bt sb st vb tb : Nat → Int) (pv cu it he hn bl sl lo : Nat → Nat) : Prop :=
  (∀ w, w < wc → ds_W rg m (ph w) (tp w) (bt w) (sb w) (st w) (vb w) (tb w)) ∧
  (∀ w, w < wc → ds_V rg wc (ph w) (st w) (pv w) (it w) tp tb sl) ∧
  (∀ w, w < wc → ((ph w = 4 → tp w = st w → it w = sl (ds_ix rg w (sb w))) ∧ (ph w = 13 → it w = sl (ds_ix rg w (sb w))))) ∧
  (∀ w i, w < wc → tp w ≤ i → i < vb w → sl (ds_ix rg w i) < m ∧ (lo (sl (ds_ix rg w i)) : Int) = 100 + 4 * i + w) ∧
  (∀ t w i, t < m → w < wc → (lo t : Int) = 100 + 4 * i + w → lo t < 1000 → 100 ≤ lo t → tp w ≤ i ∧ i < vb w ∧ sl (ds_ix rg w i) = t) ∧
  (∀ w, w < wc → ds_H (ph w) → cu w < m ∧ lo (cu w) = 10 + w) ∧
  (∀ t w, t < m → w < wc → lo t = 10 + w → ds_H (ph w) ∧ cu w = t) ∧
  (∀ w, w < wc → ds_I (ph w) (it w) → it w < m ∧ lo (it w) = 20 + w) ∧
  (∀ t w, t < m → w < wc → lo t = 20 + w → ds_I (ph w) (it w) ∧ it w = t) ∧
  (∀ w, w < wc → (hn w = 0 → he w = 99) ∧ (0 < hn w → he w < m ∧ lo (he w) + 4 = 1000 + 4 * hn w + w) ∧ (ph w ≤ 9 → hn w = 0)) ∧
  (∀ t w i, t < m → w < wc → lo t = 1000 + 4 * i + w → i < hn w ∧ (i = 0 → bl t = 99) ∧ (0 < i → bl t < m ∧ lo (bl t) + 4 = lo t)) ∧
  (∀ t, t < m → lo t ≤ 1 ∨ (∃ w, w < wc ∧ (lo t = 10 + w ∨ lo t = 20 + w ∨ (∃ i : Nat, lo t = 100 + 4 * i + w ∧ lo t < 1000) ∨ (∃ i : Nat, lo t = 1000 + 4 * i + w)))) ∧
  (∀ t t', t < m → t' < m → 1000 ≤ lo t → lo t = lo t' → t = t')
theorem ds_ixw {rg w v : Nat} {i j : Int} (h : 1 ≤ rg ∧ rg ≤ 8) (hw : v ≠ w) : ds_ix rg w i ≠ ds_ix rg v j := by
  unfold ds_ix
  have a := Nat.mod_lt i.toNat (show 0 < rg by omega)
  have b := Nat.mod_lt j.toNat (show 0 < rg by omega)
  omega
theorem ds_mod {a b r : Nat} (h1 : a < b) (h2 : b < a + r) : a % r ≠ b % r := by
  intro e
  have h3 : (b - a) % r = 0 := Nat.sub_mod_eq_zero_of_mod_eq e.symm
  rw [Nat.mod_eq_of_lt (by omega)] at h3
  omega
theorem ds_ixi {rg w : Nat} {i j : Int} (h0 : 0 ≤ i) (h1 : i < j) (h2 : j < i + rg) : ds_ix rg w i ≠ ds_ix rg w j := by
  unfold ds_ix
  have := ds_mod (a := i.toNat) (b := j.toNat) (r := rg) (by omega) (by omega)
  omega
theorem ds_ixb {rg w : Nat} {i : Int} (h : 1 ≤ rg ∧ rg ≤ 8) (hw : w < 4) : ds_ix rg w i < 32 := by
  unfold ds_ix
  have a := Nat.mod_lt i.toNat (show 0 < rg by omega)
  omega
variable {rg wc m : Nat} {ph : Nat → Nat} {tp bt sb st vb tb : Nat → Int} {pv cu it he hn bl sl lo : Nat → Nat}
/-- a worker's own move: no task changes its place -/
theorem ds_loc (h : ds_D rg wc m ph tp bt sb st vb tb pv cu it he hn bl sl lo) {w : Nat} (hw : w < wc) {p' : Nat} {bt' sb' st' tb' : Int} {pv' cu' it' : Nat}
    (hW : ds_W rg m p' (tp w) bt' sb' st' (vb w) tb') (hT : tp w < tb w → tp w < tb')
    (hV : ds_V rg wc p' st' pv' it' tp (fu tb w tb') sl)
    (h4 : p' = 4 → tp w = st' → it' = sl (ds_ix rg w sb')) (h13 : p' = 13 → it' = sl (ds_ix rg w sb'))
    (hc : ds_H p' ↔ ds_H (ph w)) (hi : ds_I p' it' ↔ ds_I (ph w) (it w)) (hi2 : ds_I p' it' → it' = it w) (hcu : ds_H p' → cu' = cu w) (hh : p' ≤ 9 → hn w = 0) :
    ds_D rg wc m (fu ph w p') tp (fu bt w bt') (fu sb w sb') (fu st w st') vb (fu tb w tb') (fu pv w pv') (fu cu w cu') (fu it w it') he hn bl sl lo := by
  obtain ⟨A, B, C, D1, D2, C1, C2, I1, I2, H1, H2, L, U⟩ := h
  refine ⟨?_, ?_, ?_, D1, D2, ?_, ?_, ?_, ?_, ?_, H2, L, U⟩
  · intro v hv
    by_cases q : v = w
    · subst q; simp only [fu_s]; exact hW
    · simp only [fu_n q]; exact A v hv
  · intro v hv
    by_cases q : v = w
    · subst q; simp only [fu_s]; exact hV
    · simp only [fu_n q]
      have b := B v hv
      unfold ds_V at b ⊢
      refine ⟨b.1, b.2.1, ?_, b.2.2.2⟩
      intro x y
      by_cases r : pv v = w
      · rw [r, fu_s]
        have := b.2.2.1 x y
        rw [r] at this y
        rw [y] at this ⊢
        exact hT this
      · rw [fu_n r]; exact b.2.2.1 x y
  · intro v hv
    by_cases q : v = w
    · subst q; simp only [fu_s]; exact ⟨h4, h13⟩
    · simp only [fu_n q]; exact C v hv
  · intro v hv
    by_cases q : v = w
    · subst q; simp only [fu_s]; intro x; rw [hcu x]; exact C1 v hv (hc.mp x)
    · simp only [fu_n q]; exact C1 v hv
  · intro t v ht hv e
    obtain ⟨x, y⟩ := C2 t v ht hv e
    by_cases q : v = w
    · subst q; simp only [fu_s]; exact ⟨hc.mpr x, (hcu (hc.mpr x)).trans y⟩
    · simp only [fu_n q]; exact ⟨x, y⟩
  · intro v hv
    by_cases q : v = w
    · subst q; simp only [fu_s]; intro x; rw [hi2 x]; exact I1 v hv (hi.mp x)
    · simp only [fu_n q]; exact I1 v hv
  · intro t v ht hv e
    obtain ⟨x, y⟩ := I2 t v ht hv e
    by_cases q : v = w
    · subst q; simp only [fu_s]
      have z := hi.mpr x
      exact ⟨z, (hi2 z).trans y⟩
    · simp only [fu_n q]; exact ⟨x, y⟩
  · intro v hv
    obtain ⟨x, y, z⟩ := H1 v hv
    refine ⟨x, y, ?_⟩
    by_cases q : v = w
    · subst q; simp only [fu_s]; exact hh
    · simp only [fu_n q]; exact z
/-- the slot is written -/
theorem ds_slot (h : ds_D rg wc m ph tp bt sb st vb tb pv cu it he hn bl sl lo) (hr : 1 ≤ rg ∧ rg ≤ 8) {w : Nat} (hw : w < wc) (hp : ph w = 12) :
    ds_D rg wc m (fu ph w 13) tp bt sb st vb tb pv cu it he hn bl (fu sl (ds_ix rg w (sb w)) (it w)) lo := by
  obtain ⟨A, B, C, D1, D2, C1, C2, I1, I2, H1, H2, L, U⟩ := h
  have a := A w hw
  rw [hp] at a
  have a' : 0 ≤ tp w ∧ tp w ≤ vb w ∧ vb w = sb w ∧ tb w = vb w ∧ sb w < tp w + rg := by unfold ds_W at a; omega
  have N1 : ∀ v i, v ≠ w → fu sl (ds_ix rg w (sb w)) (it w) (ds_ix rg v i) = sl (ds_ix rg v i) := fun v i q => fu_n (ds_ixw hr (fun z => q z.symm))
  have N2 : ∀ i, tp w ≤ i → i < vb w → fu sl (ds_ix rg w (sb w)) (it w) (ds_ix rg w i) = sl (ds_ix rg w i) := fun i h1 h2 => fu_n (ds_ixi (by omega) (by omega) (by omega))
  refine ⟨?_, ?_, ?_, ?_, ?_, ?_, ?_, ?_, ?_, ?_, H2, L, U⟩
  · intro v hv
    by_cases q : v = w
    · subst q; simp only [fu_s]; unfold ds_W at a ⊢; omega
    · simp only [fu_n q]; exact A v hv
  · intro v hv
    have b := B v hv
    by_cases q : v = w
    · subst q; simp only [fu_s]; unfold ds_V; refine ⟨?_, ?_, ?_, ?_⟩ <;> intro _ <;> omega
    · simp only [fu_n q]
      unfold ds_V at b ⊢
      refine ⟨b.1, b.2.1, b.2.2.1, fun x y => ?_⟩
      have z := b.2.2.2 x y
      have z2 := b.2.2.1 (by omega) y
      by_cases r : pv v = w
      · rw [r] at z z2 y ⊢
        rw [z, N2 _ (by omega) (by omega)]
      · rw [z, N1 _ _ r]
  · intro v hv
    by_cases q : v = w
    · subst q; simp only [fu_s]; exact ⟨fun z => absurd z (by decide), fun _ => by trivial⟩
    · simp only [fu_n q]; rw [N1 _ _ q]; exact C v hv
  · intro v i hv h1 h2
    by_cases q : v = w
    · subst q; rw [N2 i h1 h2]; exact D1 v i hv h1 h2
    · rw [N1 _ _ q]; exact D1 v i hv h1 h2
  · intro t v i ht hv e1 e2 e3
    obtain ⟨x, y, z⟩ := D2 t v i ht hv e1 e2 e3
    refine ⟨x, y, ?_⟩
    by_cases q : v = w
    · subst q; rw [N2 i x y]; exact z
    · rw [N1 _ _ q]; exact z
  · intro v hv
    by_cases q : v = w
    · subst q; simp only [fu_s]; intro _; exact C1 v hv (by unfold ds_H; omega)
    · simp only [fu_n q]; exact C1 v hv
  · intro t v ht hv e
    obtain ⟨x, y⟩ := C2 t v ht hv e
    refine ⟨?_, y⟩
    by_cases q : v = w
    · subst q; simp only [fu_s]; unfold ds_H; omega
    · simp only [fu_n q]; exact x
  · intro v hv
    by_cases q : v = w
    · subst q; simp only [fu_s]; intro _; exact I1 v hv (by unfold ds_I; omega)
    · simp only [fu_n q]; exact I1 v hv
  · intro t v ht hv e
    obtain ⟨x, y⟩ := I2 t v ht hv e
    refine ⟨?_, y⟩
    by_cases q : v = w
    · subst q; simp only [fu_s]; unfold ds_I; omega
    · simp only [fu_n q]; exact x
  · intro v hv
    obtain ⟨x, y, z⟩ := H1 v hv
    refine ⟨x, y, ?_⟩
    by_cases q : v = w
    · subst q; simp only [fu_s]; intro r; omega
    · simp only [fu_n q]; exact z
end
end
section
/-! a task changes its place -/
section
def ds_at (v c : Nat) : Prop := c = 10 + v ∨ c = 20 + v ∨ (∃ i : Nat, c = 100 + 4 * i + v ∧ c < 1000) ∨ (∃ i : Nat, c = 1000 + 4 * i + v)
theorem ds_atn {v w c : Nat} (hv : v < 4) (hw : w < 4) (h : v ≠ w) (a : ds_at v c) : ¬ ds_at w c := by
  intro b
  unfold ds_at at a b
  rcases a with a | a | ⟨i, a, a2⟩ | ⟨i, a⟩ <;> rcases b with b | b | ⟨j, b, b2⟩ | ⟨j, b⟩ <;> omega
theorem ds_at2 {v c : Nat} (a : ds_at v c) : 2 ≤ c := by
  unfold ds_at at a
  rcases a with a | a | ⟨i, a, a2⟩ | ⟨i, a⟩ <;> omega
theorem ds_atD {v c : Nat} {i : Int} (h : (c : Int) = 100 + 4 * i + v) (h1 : c < 1000) (h2 : 100 ≤ c) (hv : v < 4) : ds_at v c := by
  unfold ds_at
  exact Or.inr (Or.inr (Or.inl ⟨i.toNat, by omega, h1⟩))
variable {rg wc m : Nat} {ph : Nat → Nat} {tp bt sb st vb tb : Nat → Int} {pv cu it he hn bl sl lo : Nat → Nat}
theorem ds_mv (h : ds_D rg wc m ph tp bt sb st vb tb pv cu it he hn bl sl lo) (hwc : wc ≤ 4) (hm : m ≤ 48) {w x b : Nat} (hw : w < wc)
    (ha : lo x ≤ 1 ∨ ds_at w (lo x)) (hb : b ≤ 1 ∨ ds_at w b) (hU : ∀ t, t < m → t ≠ x → 1000 ≤ b → lo t ≠ b)
    {p' : Nat} {tp' bt' sb' st' vb' tb' : Int} {pv' cu' it' he' hn' : Nat} {bl' : Nat → Nat}
    (hbl : ∀ t v, t < m → v < wc → v ≠ w → ds_at v (lo t) → bl' t = bl t)
    (hth : (tp' = tp w ∧ (tp w < tb w → tp w < tb')) ∨ tp w < tp')
    (hA : ds_W rg m p' tp' bt' sb' st' vb' tb') (hB : p' < 6 ∨ 9 < p') (hC : p' ≠ 4 ∧ p' ≠ 13)
    (hD1 : ∀ i, tp' ≤ i → i < vb' → sl (ds_ix rg w i) < m ∧ ((fu lo x b (sl (ds_ix rg w i)) : Nat) : Int) = 100 + 4 * i + w)
    (hD2 : ∀ t i, t < m → ((fu lo x b t : Nat) : Int) = 100 + 4 * i + w → fu lo x b t < 1000 → 100 ≤ fu lo x b t → tp' ≤ i ∧ i < vb' ∧ sl (ds_ix rg w i) = t)
    (hC1 : ds_H p' → cu' < m ∧ fu lo x b cu' = 10 + w)
    (hC2 : ∀ t, t < m → fu lo x b t = 10 + w → ds_H p' ∧ cu' = t)
    (hI1 : ds_I p' it' → it' < m ∧ fu lo x b it' = 20 + w)
    (hI2 : ∀ t, t < m → fu lo x b t = 20 + w → ds_I p' it' ∧ it' = t)
    (hH1 : (hn' = 0 → he' = 99) ∧ (0 < hn' → he' < m ∧ fu lo x b he' + 4 = 1000 + 4 * hn' + w) ∧ (p' ≤ 9 → hn' = 0))
    (hH2 : ∀ t i, t < m → fu lo x b t = 1000 + 4 * i + w → i < hn' ∧ (i = 0 → bl' t = 99) ∧ (0 < i → bl' t < m ∧ fu lo x b (bl' t) + 4 = fu lo x b t)) :
    ds_D rg wc m (fu ph w p') (fu tp w tp') (fu bt w bt') (fu sb w sb') (fu st w st') (fu vb w vb') (fu tb w tb') (fu pv w pv') (fu cu w cu') (fu it w it') (fu he w he') (fu hn w hn') bl' sl (fu lo x b) := by
  obtain ⟨A, B, C, D1, D2, C1, C2, I1, I2, H1, H2, L, U⟩ := h
  have N : ∀ v t, v < wc → v ≠ w → ds_at v (lo t) → fu lo x b t = lo t := by
    intro v t hv q r
    refine fu_n (fun z => ?_)
    subst z
    rcases ha with s | s
    · have := ds_at2 r; omega
    · exact ds_atn (by omega) (by omega) q r s
  have N' : ∀ v t, v < wc → v ≠ w → ds_at v (fu lo x b t) → fu lo x b t = lo t := by
    intro v t hv q r
    refine fu_n (fun z => ?_)
    subst z
    rw [fu_s] at r
    rcases hb with s | s
    · have := ds_at2 r; omega
    · exact ds_atn (by omega) (by omega) q r s
  refine ⟨?_, ?_, ?_, ?_, ?_, ?_, ?_, ?_, ?_, ?_, ?_, ?_, ?_⟩
  · intro v hv
    by_cases q : v = w
    · subst q; simp only [fu_s]; exact hA
    · simp only [fu_n q]; exact A v hv
  · intro v hv
    by_cases q : v = w
    · subst q; simp only [fu_s]; unfold ds_V; refine ⟨?_, ?_, ?_, ?_⟩ <;> intro _ <;> omega
    · simp only [fu_n q]
      have c := B v hv
      unfold ds_V at c ⊢
      by_cases r : pv v = w
      · rw [r] at c ⊢
        rw [fu_s, fu_s]
        rcases hth with ⟨s1, s2⟩ | s
        · rw [s1]
          refine ⟨c.1, c.2.1, fun y z => ?_, c.2.2.2⟩
          have := c.2.2.1 y z
          rw [z] at this ⊢
          exact s2 this
        · refine ⟨c.1, fun y => ?_, fun y z => ?_, fun y z => ?_⟩
          · have := c.2.1 y; omega
          · have := c.2.1 (by omega); omega
          · have := c.2.1 (by omega); omega
      · rw [fu_n r, fu_n r]; exact c
  · intro v hv
    by_cases q : v = w
    · subst q; simp only [fu_s]; exact ⟨fun z => absurd z hC.1, fun z => absurd z hC.2⟩
    · simp only [fu_n q]; exact C v hv
  · intro v i hv
    by_cases q : v = w
    · subst q; simp only [fu_s]; exact hD1 i
    · simp only [fu_n q]
      intro h1 h2
      have a := A v hv
      obtain ⟨y, z⟩ := D1 v i hv h1 h2
      have a2 : 0 ≤ tp v ∧ vb v ≤ 7 + m := by unfold ds_W at a; omega
      rw [N v _ hv q (ds_atD z (by omega) (by omega) (by omega))]
      exact ⟨y, z⟩
  · intro t v i ht hv
    by_cases q : v = w
    · subst q; simp only [fu_s]; exact hD2 t i ht
    · simp only [fu_n q]
      intro e1 e2 e3
      have n := N' v t hv q (ds_atD e1 e2 e3 (by omega))
      rw [n] at e1 e2 e3
      exact D2 t v i ht hv e1 e2 e3
  · intro v hv
    by_cases q : v = w
    · subst q; simp only [fu_s]; exact hC1
    · simp only [fu_n q]
      intro r
      obtain ⟨y, z⟩ := C1 v hv r
      rw [N v _ hv q (Or.inl z)]
      exact ⟨y, z⟩
  · intro t v ht hv
    by_cases q : v = w
    · subst q; simp only [fu_s]; exact hC2 t ht
    · simp only [fu_n q]
      intro e
      rw [N' v t hv q (Or.inl e)] at e
      exact C2 t v ht hv e
  · intro v hv
    by_cases q : v = w
    · subst q; simp only [fu_s]; exact hI1
    · simp only [fu_n q]
      intro r
      obtain ⟨y, z⟩ := I1 v hv r
      rw [N v _ hv q (Or.inr (Or.inl z))]
      exact ⟨y, z⟩
  · intro t v ht hv
    by_cases q : v = w
    · subst q; simp only [fu_s]; exact hI2 t ht
    · simp only [fu_n q]
      intro e
      rw [N' v t hv q (Or.inr (Or.inl e))] at e
      exact I2 t v ht hv e
  · intro v hv
    by_cases q : v = w
    · subst q; simp only [fu_s]; exact hH1
    · simp only [fu_n q]
      obtain ⟨y1, y2, y3⟩ := H1 v hv
      refine ⟨y1, fun r => ?_, y3⟩
      obtain ⟨y, z⟩ := y2 r
      rw [N v _ hv q (Or.inr (Or.inr (Or.inr ⟨hn v - 1, by omega⟩)))]
      exact ⟨y, z⟩
  · intro t v i ht hv
    by_cases q : v = w
    · subst q; simp only [fu_s]; exact hH2 t i ht
    · simp only [fu_n q]
      intro e
      have n := N' v t hv q (Or.inr (Or.inr (Or.inr ⟨i, e⟩)))
      rw [n] at e ⊢
      obtain ⟨y1, y2, y3⟩ := H2 t v i ht hv e
      rw [hbl t v ht hv q (Or.inr (Or.inr (Or.inr ⟨i, e⟩)))]
      refine ⟨y1, y2, fun r => ?_⟩
      obtain ⟨y, z⟩ := y3 r
      rw [N v _ hv q (Or.inr (Or.inr (Or.inr ⟨i - 1, by omega⟩)))]
      exact ⟨y, z⟩
  · intro t ht
    by_cases q : t = x
    · subst q; rw [fu_s]
      rcases hb with s | s
      · exact Or.inl s
      · exact Or.inr ⟨w, hw, s⟩
    · rw [fu_n q]; exact L t ht
  · intro t t' ht ht' h1 h2
    by_cases q : t = x
    · by_cases q' : t' = x
      · rw [q, q']
      · rw [q, fu_s] at h1
        rw [q, fu_s, fu_n q'] at h2
        exact absurd h2.symm (hU t' ht' q' h1)
    · rw [fu_n q] at h1 h2
      by_cases q' : t' = x
      · rw [q', fu_s] at h2
        exact absurd h2 (hU t ht q (by omega))
      · rw [fu_n q'] at h2
        exact U t t' ht ht' h1 h2
/-- a thief takes the oldest task of another's ring -/
theorem ds_grab (h : ds_D rg wc m ph tp bt sb st vb tb pv cu it he hn bl sl lo) (hwc : wc ≤ 4) (hm : m ≤ 48) {w v x : Nat} (hw : w < wc) (hv : v < wc) (hvw : v ≠ w) (hp : ph w = 9) (hlt : tp v < tb v) (hx : x = sl (ds_ix rg v (tp v))) :
    ds_D rg wc m (fu ph w 21) (fu tp v (tp v + 1)) bt sb st vb tb pv cu (fu it w x) he hn bl sl (fu lo x (20 + w)) := by
  obtain ⟨A, B, C, D1, D2, C1, C2, I1, I2, H1, H2, L, U⟩ := h
  have av := A v hv
  have aw := A w hw
  have av2 : 0 ≤ tp v ∧ tp v < vb v ∧ vb v ≤ 7 + m ∧ tb v ≤ vb v := by unfold ds_W at av; omega
  obtain ⟨x1, x2⟩ := D1 v (tp v) hv (Int.le_refl _) (by omega)
  rw [← hx] at x1 x2
  have N : ∀ t, t ≠ x → fu lo x (20 + w) t = lo t := fun t q => fu_n q
  refine ⟨?_, ?_, ?_, ?_, ?_, ?_, ?_, ?_, ?_, ?_, ?_, ?_, ?_⟩
  · intro u hu
    by_cases q : u = w
    · subst q; rw [fu_s, fu_n (fun z => hvw z.symm)]; rw [hp] at aw; unfold ds_W at aw ⊢; omega
    · rw [fu_n q]
      by_cases r : u = v
      · subst r; rw [fu_s]; unfold ds_W at av ⊢; omega
      · rw [fu_n r]; exact A u hu
  · intro u hu
    by_cases q : u = w
    · subst q; simp only [fu_s]; unfold ds_V; refine ⟨?_, ?_, ?_, ?_⟩ <;> intro _ <;> omega
    · simp only [fu_n q]
      have c := B u hu
      unfold ds_V at c ⊢
      by_cases r : pv u = v
      · rw [r] at c ⊢
        rw [fu_s]
        refine ⟨c.1, fun y => ?_, fun y z => ?_, fun y z => ?_⟩
        · have := c.2.1 y; omega
        · have := c.2.1 (by omega); omega
        · have := c.2.1 (by omega); omega
      · rw [fu_n r]; exact c
  · intro u hu
    have c := C u hu
    by_cases q : u = w
    · subst q; simp only [fu_s]; exact ⟨fun z => absurd z (by decide), fun z => absurd z (by decide)⟩
    · simp only [fu_n q]
      refine ⟨fun y z => ?_, c.2⟩
      by_cases r : u = v
      · subst r
        rw [fu_s] at z
        have : st u ≤ tp u := by unfold ds_W at av; omega
        omega
      · rw [fu_n r] at z; exact c.1 y z
  · intro u i hu h1 h2
    have h1' : tp u ≤ i := by
      by_cases r : u = v
      · subst r; rw [fu_s] at h1; omega
      · rw [fu_n r] at h1; exact h1
    obtain ⟨y, z⟩ := D1 u i hu h1' h2
    have ne : sl (ds_ix rg u i) ≠ x := by
      intro e
      rw [e] at z
      have : u = v := by omega
      subst this
      rw [fu_s] at h1
      omega
    rw [N _ ne]; exact ⟨y, z⟩
  · intro t u i ht hu e1 e2 e3
    have ne : t ≠ x := by intro e; subst e; rw [fu_s] at e3; omega
    rw [N _ ne] at e1 e2 e3
    obtain ⟨y1, y2, y3⟩ := D2 t u i ht hu e1 e2 e3
    refine ⟨?_, y2, y3⟩
    by_cases r : u = v
    · subst r
      rw [fu_s]
      have : i ≠ tp u := by intro e; rw [e, ← hx] at y3; exact ne y3.symm
      omega
    · rw [fu_n r]; exact y1
  · intro u hu
    by_cases q : u = w
    · subst q; rw [fu_s]; intro r; unfold ds_H at r; omega
    · rw [fu_n q]
      intro r
      obtain ⟨y, z⟩ := C1 u hu r
      rw [N _ (by intro e; rw [e] at z; omega)]
      exact ⟨y, z⟩
  · intro t u ht hu e
    have ne : t ≠ x := by intro e2; subst e2; rw [fu_s] at e; omega
    rw [N _ ne] at e
    obtain ⟨y, z⟩ := C2 t u ht hu e
    refine ⟨?_, z⟩
    by_cases q : u = w
    · subst q; unfold ds_H at y; omega
    · rw [fu_n q]; exact y
  · intro u hu
    by_cases q : u = w
    · subst q; rw [fu_s, fu_s]; intro _; rw [fu_s]; exact ⟨x1, rfl⟩
    · rw [fu_n q, fu_n q]
      intro r
      obtain ⟨y, z⟩ := I1 u hu r
      rw [N _ (by intro e; rw [e] at z; omega)]
      exact ⟨y, z⟩
  · intro t u ht hu e
    by_cases q : u = w
    · subst q
      rw [fu_s, fu_s]
      refine ⟨by unfold ds_I; omega, ?_⟩
      by_cases ne : t = x
      · exact ne.symm
      · rw [N _ ne] at e
        obtain ⟨y, z⟩ := I2 t u ht hu e
        unfold ds_I at y; omega
    · have ne : t ≠ x := by intro e2; subst e2; rw [fu_s] at e; omega
      rw [N _ ne] at e
      rw [fu_n q, fu_n q]
      exact I2 t u ht hu e
  · intro u hu
    obtain ⟨y1, y2, y3⟩ := H1 u hu
    refine ⟨y1, fun r => ?_, ?_⟩
    · obtain ⟨y, z⟩ := y2 r
      rw [N _ (by intro e; rw [e] at z; omega)]
      exact ⟨y, z⟩
    · by_cases q : u = w
      · subst q; intro _; exact y3 (by omega)
      · rw [fu_n q]; exact y3
  · intro t u i ht hu e
    have ne : t ≠ x := by intro e2; subst e2; rw [fu_s] at e; omega
    rw [N _ ne] at e ⊢
    obtain ⟨y1, y2, y3⟩ := H2 t u i ht hu e
    refine ⟨y1, y2, fun r => ?_⟩
    obtain ⟨y, z⟩ := y3 r
    rw [N _ (by intro e2; rw [e2] at z; omega)]
    exact ⟨y, z⟩
  · intro t ht
    by_cases ne : t = x
    · subst ne; rw [fu_s]; exact Or.inr ⟨w, hw, Or.inr (Or.inl rfl)⟩
    · rw [N _ ne]; exact L t ht
  · intro t t' ht ht' h1 h2
    have ne : t ≠ x := by intro e; subst e; rw [fu_s] at h1; omega
    have ne' : t' ≠ x := by intro e; subst e; rw [fu_s] at h2; omega
    rw [N _ ne] at h1 h2
    rw [N _ ne'] at h2
    exact U t t' ht ht' h1 h2
end
end
section
/-! join counters -/
section
def jk_f (par lo : Nat → Nat) (t : Nat) : Nat → Nat := fun c => if 0 < c ∧ par c = t ∧ lo c ≠ 0 then 1 else 0
def jk_K (m : Nat) (par lo : Nat → Nat) (t : Nat) : Nat := sn_s (jk_f par lo t) m
theorem jk_same {m : Nat} {par lo lo' : Nat → Nat} {t : Nat} (h : ∀ c, c < m → (lo' c = 0 ↔ lo c = 0)) : jk_K m par lo' t = jk_K m par lo t := by
  refine sn_c (fun c hc => ?_)
  unfold jk_f
  have := h c hc
  by_cases q : lo c = 0
  · rw [if_neg (fun z => z.2.2 (this.mpr q)), if_neg (fun z => z.2.2 q)]
  · by_cases r : 0 < c ∧ par c = t
    · rw [if_pos ⟨r.1, r.2, fun z => q (this.mp z)⟩, if_pos ⟨r.1, r.2, q⟩]
    · rw [if_neg (fun z => r ⟨z.1, z.2.1⟩), if_neg (fun z => r ⟨z.1, z.2.1⟩)]
theorem jk_endf {par lo : Nat → Nat} {t y : Nat} : jk_f par (fu lo y 0) t = fu (jk_f par lo t) y 0 := by
  funext c
  unfold jk_f
  by_cases q : c = y
  · subst q; rw [fu_s, fu_s, if_neg (fun z => z.2.2 rfl)]
  · rw [fu_n q, fu_n q]
theorem jk_end {m : Nat} {par lo : Nat → Nat} {y : Nat} (hy : y < m) (h0 : 0 < y) (hl : lo y ≠ 0) : jk_K m par (fu lo y 0) (par y) + 1 = jk_K m par lo (par y) := by
  have := sn_u (f := jk_f par lo (par y)) (t := y) (v := 0) hy
  unfold jk_K
  rw [jk_endf]
  have e : jk_f par lo (par y) y = 1 := if_pos ⟨h0, rfl, hl⟩
  omega
theorem jk_end2 {m : Nat} {par lo : Nat → Nat} {y t : Nat} (hy : y < m) (ht : t ≠ par y) : jk_K m par (fu lo y 0) t = jk_K m par lo t := by
  have := sn_u (f := jk_f par lo t) (t := y) (v := 0) hy
  unfold jk_K
  rw [jk_endf]
  have e : jk_f par lo t y = 0 := if_neg (fun z => ht z.2.1.symm)
  omega
theorem jk_new {m : Nat} {par lo : Nat → Nat} {p c t : Nat} (hm : 0 < m) (hc : c ≠ 0) : jk_K (m + 1) (fu par m p) (fu lo m c) t = jk_K m par lo t + (if t = p then 1 else 0) := by
  unfold jk_K
  rw [sn_1]
  have e1 : sn_s (jk_f (fu par m p) (fu lo m c) t) m = sn_s (jk_f par lo t) m := by
    refine sn_c (fun i hi => ?_)
    unfold jk_f
    rw [fu_n (by omega), fu_n (by omega)]
  have e2 : jk_f (fu par m p) (fu lo m c) t m = if t = p then 1 else 0 := by
    unfold jk_f
    rw [fu_s, fu_s]
    by_cases q : t = p
    · rw [if_pos q, if_pos ⟨hm, q.symm, hc⟩]
    · rw [if_neg q, if_neg (fun z => q z.2.1.symm)]
  rw [e1, e2]
theorem jk_pos {m : Nat} {par lo : Nat → Nat} {t : Nat} (h : 0 < jk_K m par lo t) : ∃ c, c < m ∧ 0 < c ∧ par c = t ∧ lo c ≠ 0 := by
  obtain ⟨c, hc, q⟩ := sn_e h
  unfold jk_f at q
  by_cases r : 0 < c ∧ par c = t ∧ lo c ≠ 0
  · exact ⟨c, hc, r⟩
  · rw [if_neg r] at q; omega
theorem jk_zero {m : Nat} {par lo : Nat → Nat} {t : Nat} (h : jk_K m par lo t = 0) {c : Nat} (hc : c < m) (h0 : 0 < c) (hp : par c = t) : lo c = 0 := by
  rcases Nat.eq_zero_or_pos (lo c) with z | z
  · exact z
  · have := sn_g (f := jk_f par lo t) hc
    have e : jk_f par lo t c = 1 := if_pos ⟨h0, hp, by omega⟩
    unfold jk_K at h
    omega
def jk_q (ph : Nat) : Nat := if ph = 15 ∨ 17 ≤ ph then 0 else 1
def jk_J (wc m : Nat) (ph cu it par : Nat → Nat) (jn : Nat → Int) (lo : Nat → Nat) : Prop :=
  (∀ w, w < wc → ds_H (ph w) → jn (cu w) = jk_q (ph w) + jk_K m par lo (cu w)) ∧
  (∀ t, t < m → lo t ≤ 1 → jn t = jk_K m par lo t) ∧
  (∀ t, t < m → 20 ≤ lo t → jn t = 1 + jk_K m par lo t) ∧
  (∀ t, t < m → lo t = 1 → 0 < jk_K m par lo t) ∧
  (∀ t, t < m → lo t = 0 → jk_K m par lo t = 0) ∧
  (∀ w, w < wc → 17 ≤ ph w ∧ ph w ≤ 19 → jk_K m par lo (cu w) = 0) ∧
  (∀ w, w < wc → ph w = 15 → par (it w) = cu w ∧ 0 < it w)
def ei_E (wc m : Nat) (ph cu lo : Nat → Nat) (dn wt : Nat → Prop) : Prop :=
  lo 0 ≠ 0 ∧
  (∀ t, t < m → lo t = 0 → dn t) ∧
  (∀ w, w < wc → ph w = 19 → dn (cu w) ∧ 0 < cu w) ∧
  (∀ w, w < wc → 10 ≤ ph w ∧ ph w ≤ 18 → ¬ dn (cu w)) ∧
  (∀ t, t < m → (lo t = 1 ∨ 20 ≤ lo t) → ¬ dn t) ∧
  (∀ w, w < wc → (ph w = 16 ∨ ph w = 17) → wt (cu w)) ∧
  (∀ t, t < m → lo t = 1 → wt t)
variable {wc m : Nat} {ph cu it par : Nat → Nat} {jn : Nat → Int} {lo : Nat → Nat} {dn wt : Nat → Prop}
theorem jk_loc (h : jk_J wc m ph cu it par jn lo) {w p' cu' it' : Nat} (hw : w < wc) (hc : ds_H p' → ds_H (ph w) ∧ cu' = cu w ∧ jk_q p' = jk_q (ph w)) (h17 : 17 ≤ p' ∧ p' ≤ 19 → 17 ≤ ph w ∧ ph w ≤ 19) (h15 : p' = 15 → ph w = 15 ∧ it' = it w) : jk_J wc m (fu ph w p') (fu cu w cu') (fu it w it') par jn lo := by
  obtain ⟨J1, J2, J3, J4, J5, J6, J7⟩ := h
  refine ⟨?_, J2, J3, J4, J5, ?_, ?_⟩
  · intro v hv
    by_cases q : v = w
    · subst q; simp only [fu_s]; intro r
      obtain ⟨a, b, c⟩ := hc r
      rw [b, c]; exact J1 v hv a
    · simp only [fu_n q]; exact J1 v hv
  · intro v hv
    by_cases q : v = w
    · subst q; simp only [fu_s]; intro r
      have := (hc (by unfold ds_H; omega)).2.1
      rw [this]; exact J6 v hv (h17 r)
    · simp only [fu_n q]; exact J6 v hv
  · intro v hv
    by_cases q : v = w
    · subst q; simp only [fu_s]; intro r
      obtain ⟨a, b⟩ := h15 r
      have := (hc (by unfold ds_H; omega)).2.1
      rw [b, this]; exact J7 v hv a
    · simp only [fu_n q]; exact J7 v hv
theorem ei_loc (h : ei_E wc m ph cu lo dn wt) {w p' cu' : Nat} (hw : w < wc) (hc : ds_H p' → cu' = cu w) (h19 : p' = 19 → ph w = 19) (h18 : 10 ≤ p' ∧ p' ≤ 18 → 10 ≤ ph w ∧ ph w ≤ 18) (h16 : p' = 16 ∨ p' = 17 → ph w = 16 ∨ ph w = 17) : ei_E wc m (fu ph w p') (fu cu w cu') lo dn wt := by
  obtain ⟨E0, E1, E2, E3, E4, W1, W2⟩ := h
  refine ⟨E0, E1, ?_, ?_, E4, ?_, W2⟩
  · intro v hv
    by_cases q : v = w
    · subst q; simp only [fu_s]; intro r
      rw [hc (by unfold ds_H; omega)]; exact E2 v hv (h19 r)
    · simp only [fu_n q]; exact E2 v hv
  · intro v hv
    by_cases q : v = w
    · subst q; simp only [fu_s]; intro r
      rw [hc (by unfold ds_H; omega)]; exact E3 v hv (h18 r)
    · simp only [fu_n q]; exact E3 v hv
  · intro v hv
    by_cases q : v = w
    · subst q; simp only [fu_s]; intro r
      rw [hc (by unfold ds_H; omega)]; exact W1 v hv (h16 r)
    · simp only [fu_n q]; exact W1 v hv
/-- a task that is not ended, not waiting and in no hand changes its place, and may come into the hand of w -/
theorem jk_mv (h : jk_J wc m ph cu it par jn lo) {w x b p' cu' it' : Nat} (hw : w < wc) (ha : 2 ≤ lo x) (hj : jn x = 1 + jk_K m par lo x) (hx : x < m) (hb : 20 ≤ b ∨ (b = 10 + w ∧ ds_H p' ∧ cu' = x))
    (hc : ds_H p' → (ds_H (ph w) ∧ cu' = cu w ∧ jk_q p' = jk_q (ph w)) ∨ (cu' = x ∧ jk_q p' = 1)) (h17 : ¬ (17 ≤ p' ∧ p' ≤ 19)) (h15 : p' ≠ 15) : jk_J wc m (fu ph w p') (fu cu w cu') (fu it w it') par jn (fu lo x b) := by
  obtain ⟨J1, J2, J3, J4, J5, J6, J7⟩ := h
  have hb2 : 10 ≤ b := by omega
  have K : ∀ t, jk_K m par (fu lo x b) t = jk_K m par lo t := by
    intro t
    refine jk_same (fun c hc2 => ?_)
    by_cases q : c = x
    · subst q; rw [fu_s]; omega
    · rw [fu_n q]
  refine ⟨?_, ?_, ?_, ?_, ?_, ?_, ?_⟩
  · intro v hv
    rw [K]
    by_cases q : v = w
    · subst q; simp only [fu_s]; intro r
      rcases hc r with ⟨a1, a2, a3⟩ | ⟨a1, a2⟩
      · rw [a2, a3]; exact J1 v hv a1
      · rw [a1, a2]; exact hj
    · simp only [fu_n q]; exact J1 v hv
  · intro t ht r
    have ne : t ≠ x := by intro e; subst e; rw [fu_s] at r; omega
    rw [fu_n ne] at r
    rw [K]; exact J2 t ht r
  · intro t ht r
    rw [K]
    by_cases ne : t = x
    · subst ne; exact hj
    · rw [fu_n ne] at r; exact J3 t ht r
  · intro t ht r
    have ne : t ≠ x := by intro e; subst e; rw [fu_s] at r; omega
    rw [fu_n ne] at r
    rw [K]; exact J4 t ht r
  · intro t ht r
    have ne : t ≠ x := by intro e; subst e; rw [fu_s] at r; omega
    rw [fu_n ne] at r
    rw [K]; exact J5 t ht r
  · intro v hv
    rw [K]
    by_cases q : v = w
    · subst q; simp only [fu_s]; intro r; exact absurd r h17
    · simp only [fu_n q]; exact J6 v hv
  · intro v hv
    by_cases q : v = w
    · subst q; simp only [fu_s]; intro r; exact absurd r h15
    · simp only [fu_n q]; exact J7 v hv
theorem ei_mv (h : ei_E wc m ph cu lo dn wt) {w x b p' cu' : Nat} (hw : w < wc) (hnd : ¬ dn x) (hb : 10 ≤ b)
    (hc : ds_H p' → (cu' = cu w ∧ 10 ≤ ph w ∧ ph w ≤ 18) ∨ cu' = x) (h19 : p' ≠ 19) (h16 : p' ≠ 16 ∧ p' ≠ 17) : ei_E wc m (fu ph w p') (fu cu w cu') (fu lo x b) dn wt := by
  obtain ⟨E0, E1, E2, E3, E4, W1, W2⟩ := h
  refine ⟨?_, ?_, ?_, ?_, ?_, ?_, ?_⟩
  · by_cases q : 0 = x
    · subst q; rw [fu_s]; omega
    · rw [fu_n q]; exact E0
  · intro t ht r
    have ne : t ≠ x := by intro e; subst e; rw [fu_s] at r; omega
    rw [fu_n ne] at r; exact E1 t ht r
  · intro v hv
    by_cases q : v = w
    · subst q; simp only [fu_s]; intro r; exact absurd r h19
    · simp only [fu_n q]; exact E2 v hv
  · intro v hv
    by_cases q : v = w
    · subst q; simp only [fu_s]; intro r
      rcases hc (by unfold ds_H; omega) with ⟨a1, a2⟩ | a1
      · rw [a1]; exact E3 v hv a2
      · rw [a1]; exact hnd
    · simp only [fu_n q]; exact E3 v hv
  · intro t ht r
    by_cases ne : t = x
    · subst ne; exact hnd
    · rw [fu_n ne] at r; exact E4 t ht r
  · intro v hv
    by_cases q : v = w
    · subst q; simp only [fu_s]; intro r; omega
    · simp only [fu_n q]; exact W1 v hv
  · intro t ht r
    have ne : t ≠ x := by intro e; subst e; rw [fu_s] at r; omega
    rw [fu_n ne] at r; exact W2 t ht r
end
end
section
/-! the moves one by one (printed by mv.py) -/
section
variable {rg wc m : Nat} {ph : Nat → Nat} {tp bt sb st vb tb : Nat → Int} {pv cu it he hn bl sl lo : Nat → Nat}
/-- the task got goes into the hand -/
theorem ds_take (h : ds_D rg wc m ph tp bt sb st vb tb pv cu it he hn bl sl lo) (hwc : wc ≤ 4) (hm : m ≤ 48) {w : Nat} (hw : w < wc) (hp : ph w = 21) :
    ds_D rg wc m (fu ph w (14)) tp bt sb st vb tb pv (fu cu w (it w)) (fu it w (99)) he hn bl sl (fu lo (it w) (10 + w)) := by
  have h' := h
  obtain ⟨A, B, C, D1, D2, C1, C2, I1, I2, H1, H2, L, U⟩ := h
  have a := A w hw
  rw [hp] at a
  have a2 : 0 ≤ tp w ∧ tp w ≤ tb w ∧ tb w ≤ vb w ∧ vb w ≤ 7 + m := by unfold ds_W at a; omega
  obtain ⟨x1, x2⟩ := I1 w hw (by unfold ds_I; omega)
  generalize ex : it w = x at *
  have N : ∀ t, t ≠ x → fu lo x (10 + w) t = lo t := fun t q => fu_n q
  have key := ds_mv h' hwc hm hw (x := x) (b := 10 + w) (p' := 14) (tp' := tp w) (bt' := bt w) (sb' := sb w) (st' := st w) (vb' := vb w) (tb' := tb w) (pv' := pv w) (cu' := x) (it' := 99) (he' := he w) (hn' := hn w) (bl' := bl)
    (Or.inr (Or.inr (Or.inl x2))) (Or.inr (Or.inl rfl)) (fun t ht q r => by omega) (fun _ _ _ _ _ _ => rfl) (Or.inl ⟨rfl, id⟩)
    (by unfold ds_W at a ⊢; omega) (by omega) (by omega)
    (by
      intro i h1 h2
      obtain ⟨y, z⟩ := D1 w i hw h1 h2
      rw [N _ (by intro e; rw [e] at z; omega)]
      exact ⟨y, z⟩)
    (by
      intro t i ht e1 e2 e3
      have ne : t ≠ x := by intro e; subst e; rw [fu_s] at e3; omega
      rw [N _ ne] at e1 e2 e3
      exact D2 t w i ht hw e1 e2 e3)
    (by
      intro _; rw [fu_s]; exact ⟨x1, rfl⟩)
    (by
      intro t ht e
      by_cases ne : t = x
      · exact ⟨by unfold ds_H; omega, ne.symm⟩
      · rw [N _ ne] at e
        have y := C2 t w ht hw e
        unfold ds_H at y; omega)
    (by
      intro z; unfold ds_I at z; omega)
    (by
      intro t ht e
      have ne : t ≠ x := by intro e2; subst e2; rw [fu_s] at e; omega
      rw [N _ ne] at e
      have y := I2 t w ht hw e
      unfold ds_I at y; omega)
    (by
      obtain ⟨y1, y2, y3⟩ := H1 w hw
      refine ⟨y1, fun r => ?_, fun r => by omega⟩
      obtain ⟨y, z⟩ := y2 r
      rw [N _ (by intro e; rw [e] at z; omega)]
      exact ⟨y, z⟩)
    (by
      intro t i ht e
      have ne : t ≠ x := by intro e2; subst e2; rw [fu_s] at e; omega
      rw [N _ ne] at e ⊢
      obtain ⟨y1, y2, y3⟩ := H2 t w i ht hw e
      refine ⟨y1, y2, fun r => ?_⟩
      obtain ⟨y, z⟩ := y3 r
      rw [N _ (by intro e2; rw [e2] at z; omega)]
      exact ⟨y, z⟩)
  simp only [fu_id] at key
  exact key
/-- the owner takes its youngest task, which no thief can reach -/
theorem ds_popb (h : ds_D rg wc m ph tp bt sb st vb tb pv cu it he hn bl sl lo) (hwc : wc ≤ 4) (hm : m ≤ 48) {w : Nat} (hw : w < wc) (hp : ph w = 3) (hs : st w < sb w) :
    ds_D rg wc m (fu ph w (21)) tp bt sb st (fu vb w (sb w)) tb pv cu (fu it w (sl (ds_ix rg w (sb w)))) he hn bl sl (fu lo (sl (ds_ix rg w (sb w))) (20 + w)) := by
  have h' := h
  obtain ⟨A, B, C, D1, D2, C1, C2, I1, I2, H1, H2, L, U⟩ := h
  have a := A w hw
  rw [hp] at a
  have a2 : 0 ≤ tp w ∧ tp w ≤ tb w ∧ tb w ≤ vb w ∧ vb w ≤ 7 + m := by unfold ds_W at a; omega
  have a3 : tb w = sb w ∧ vb w = sb w + 1 := by unfold ds_W at a; omega
  obtain ⟨x1, x2⟩ := D1 w (sb w) hw (by omega) (by omega)
  generalize ex : sl (ds_ix rg w (sb w)) = x at *
  have N : ∀ t, t ≠ x → fu lo x (20 + w) t = lo t := fun t q => fu_n q
  have key := ds_mv h' hwc hm hw (x := x) (b := 20 + w) (p' := 21) (tp' := tp w) (bt' := bt w) (sb' := sb w) (st' := st w) (vb' := sb w) (tb' := tb w) (pv' := pv w) (cu' := cu w) (it' := x) (he' := he w) (hn' := hn w) (bl' := bl)
    (Or.inr (ds_atD x2 (by omega) (by omega) (by omega))) (Or.inr (Or.inr (Or.inl rfl))) (fun t ht q r => by omega) (fun _ _ _ _ _ _ => rfl) (Or.inl ⟨rfl, id⟩)
    (by unfold ds_W at a ⊢; omega) (by omega) (by omega)
    (by
      intro i h1 h2
      obtain ⟨y, z⟩ := D1 w i hw h1 (by omega)
      rw [N _ (by intro e; rw [e] at z; omega)]
      exact ⟨y, z⟩)
    (by
      intro t i ht e1 e2 e3
      have ne : t ≠ x := by intro e; subst e; rw [fu_s] at e3; omega
      rw [N _ ne] at e1 e2 e3
      obtain ⟨y1, y2, y3⟩ := D2 t w i ht hw e1 e2 e3
      have ni : i ≠ sb w := by intro e; rw [e, ex] at y3; exact ne y3.symm
      exact ⟨y1, by omega, y3⟩)
    (by
      intro z; unfold ds_H at z; omega)
    (by
      intro t ht e
      have ne : t ≠ x := by intro e2; subst e2; rw [fu_s] at e; omega
      rw [N _ ne] at e
      have y := C2 t w ht hw e
      unfold ds_H at y; omega)
    (by
      intro _; rw [fu_s]; exact ⟨x1, rfl⟩)
    (by
      intro t ht e
      by_cases ne : t = x
      · exact ⟨by unfold ds_I; omega, ne.symm⟩
      · rw [N _ ne] at e
        have y := I2 t w ht hw e
        unfold ds_I at y; omega)
    (by
      obtain ⟨y1, y2, y3⟩ := H1 w hw
      refine ⟨y1, fun r => ?_, fun r => by omega⟩
      obtain ⟨y, z⟩ := y2 r
      rw [N _ (by intro e; rw [e] at z; omega)]
      exact ⟨y, z⟩)
    (by
      intro t i ht e
      have ne : t ≠ x := by intro e2; subst e2; rw [fu_s] at e; omega
      rw [N _ ne] at e ⊢
      obtain ⟨y1, y2, y3⟩ := H2 t w i ht hw e
      refine ⟨y1, y2, fun r => ?_⟩
      obtain ⟨y, z⟩ := y3 r
      rw [N _ (by intro e2; rw [e2] at z; omega)]
      exact ⟨y, z⟩)
  simp only [fu_id] at key
  exact key
/-- the owner takes its last task -/
theorem ds_pop4 (h : ds_D rg wc m ph tp bt sb st vb tb pv cu it he hn bl sl lo) (hwc : wc ≤ 4) (hm : m ≤ 48) {w : Nat} (hw : w < wc) (hp : ph w = 4) (hs : tp w = st w) :
    ds_D rg wc m (fu ph w (5)) (fu tp w (tp w + 1)) bt sb st vb tb pv cu (fu it w (sl (ds_ix rg w (tp w)))) he hn bl sl (fu lo (sl (ds_ix rg w (tp w))) (20 + w)) := by
  have h' := h
  obtain ⟨A, B, C, D1, D2, C1, C2, I1, I2, H1, H2, L, U⟩ := h
  have a := A w hw
  rw [hp] at a
  have a2 : 0 ≤ tp w ∧ tp w ≤ tb w ∧ tb w ≤ vb w ∧ vb w ≤ 7 + m := by unfold ds_W at a; omega
  have a3 : tb w = vb w ∧ vb w = tp w + 1 := by unfold ds_W at a; omega
  obtain ⟨x1, x2⟩ := D1 w (tp w) hw (by omega) (by omega)
  generalize ex : sl (ds_ix rg w (tp w)) = x at *
  have N : ∀ t, t ≠ x → fu lo x (20 + w) t = lo t := fun t q => fu_n q
  have key := ds_mv h' hwc hm hw (x := x) (b := 20 + w) (p' := 5) (tp' := tp w + 1) (bt' := bt w) (sb' := sb w) (st' := st w) (vb' := vb w) (tb' := tb w) (pv' := pv w) (cu' := cu w) (it' := x) (he' := he w) (hn' := hn w) (bl' := bl)
    (Or.inr (ds_atD x2 (by omega) (by omega) (by omega))) (Or.inr (Or.inr (Or.inl rfl))) (fun t ht q r => by omega) (fun _ _ _ _ _ _ => rfl) (Or.inr (by omega))
    (by unfold ds_W at a ⊢; omega) (by omega) (by omega)
    (by
      intro i h1 h2; omega)
    (by
      intro t i ht e1 e2 e3
      have ne : t ≠ x := by intro e; subst e; rw [fu_s] at e3; omega
      rw [N _ ne] at e1 e2 e3
      obtain ⟨y1, y2, y3⟩ := D2 t w i ht hw e1 e2 e3
      have ni : i ≠ tp w := by intro e; rw [e, ex] at y3; exact ne y3.symm
      omega)
    (by
      intro z; unfold ds_H at z; omega)
    (by
      intro t ht e
      have ne : t ≠ x := by intro e2; subst e2; rw [fu_s] at e; omega
      rw [N _ ne] at e
      have y := C2 t w ht hw e
      unfold ds_H at y; omega)
    (by
      intro _; rw [fu_s]; exact ⟨x1, rfl⟩)
    (by
      intro t ht e
      by_cases ne : t = x
      · exact ⟨by unfold ds_I; omega, ne.symm⟩
      · rw [N _ ne] at e
        have y := I2 t w ht hw e
        unfold ds_I at y; omega)
    (by
      obtain ⟨y1, y2, y3⟩ := H1 w hw
      refine ⟨y1, fun r => ?_, fun r => by omega⟩
      obtain ⟨y, z⟩ := y2 r
      rw [N _ (by intro e; rw [e] at z; omega)]
      exact ⟨y, z⟩)
    (by
      intro t i ht e
      have ne : t ≠ x := by intro e2; subst e2; rw [fu_s] at e; omega
      rw [N _ ne] at e ⊢
      obtain ⟨y1, y2, y3⟩ := H2 t w i ht hw e
      refine ⟨y1, y2, fun r => ?_⟩
      obtain ⟨y, z⟩ := y3 r
      rw [N _ (by intro e2; rw [e2] at z; omega)]
      exact ⟨y, z⟩)
  simp only [fu_id] at key
  exact key
/-- the new child lies in the ring -/
theorem ds_push (h : ds_D rg wc m ph tp bt sb st vb tb pv cu it he hn bl sl lo) (hwc : wc ≤ 4) (hm : m ≤ 48) {w : Nat} (hw : w < wc) (hp : ph w = 13) :
    ds_D rg wc m (fu ph w (14)) tp (fu bt w (sb w + 1)) sb st (fu vb w (sb w + 1)) (fu tb w (sb w + 1)) pv cu (fu it w (99)) he hn bl sl (fu lo (it w) (100 + 4 * (sb w).toNat + w)) := by
  have h' := h
  obtain ⟨A, B, C, D1, D2, C1, C2, I1, I2, H1, H2, L, U⟩ := h
  have a := A w hw
  rw [hp] at a
  have a2 : 0 ≤ tp w ∧ tp w ≤ tb w ∧ tb w ≤ vb w ∧ vb w ≤ 7 + m := by unfold ds_W at a; omega
  have a3 : 0 ≤ tp w ∧ tp w ≤ sb w ∧ vb w = sb w ∧ tb w = vb w := by unfold ds_W at a; omega
  obtain ⟨x1, x2⟩ := I1 w hw (by unfold ds_I; omega)
  have x3 := (C w hw).2 hp
  generalize ex : it w = x at *
  have N : ∀ t, t ≠ x → fu lo x (100 + 4 * (sb w).toNat + w) t = lo t := fun t q => fu_n q
  have key := ds_mv h' hwc hm hw (x := x) (b := 100 + 4 * (sb w).toNat + w) (p' := 14) (tp' := tp w) (bt' := sb w + 1) (sb' := sb w) (st' := st w) (vb' := sb w + 1) (tb' := sb w + 1) (pv' := pv w) (cu' := cu w) (it' := 99) (he' := he w) (hn' := hn w) (bl' := bl)
    (Or.inr (Or.inr (Or.inl x2))) (Or.inr (Or.inr (Or.inr (Or.inl ⟨(sb w).toNat, rfl, by omega⟩)))) (fun t ht q r => by omega) (fun _ _ _ _ _ _ => rfl) (Or.inl ⟨rfl, fun _ => by omega⟩)
    (by unfold ds_W at a ⊢; omega) (by omega) (by omega)
    (by
      intro i h1 h2
      by_cases r : i = sb w
      · rw [r, ← x3, fu_s]; exact ⟨x1, by omega⟩
      · obtain ⟨y, z⟩ := D1 w i hw h1 (by omega)
        rw [N _ (by intro e; rw [e] at z; omega)]
        exact ⟨y, z⟩)
    (by
      intro t i ht e1 e2 e3
      by_cases ne : t = x
      · rw [ne, fu_s] at e1
        have : i = sb w := by omega
        rw [this, ne]
        exact ⟨by omega, by omega, x3.symm⟩
      · rw [N _ ne] at e1 e2 e3
        obtain ⟨y1, y2, y3⟩ := D2 t w i ht hw e1 e2 e3
        exact ⟨y1, by omega, y3⟩)
    (by
      intro _
      obtain ⟨y, z⟩ := C1 w hw (by unfold ds_H; omega)
      rw [N _ (by intro e; rw [e] at z; omega)]
      exact ⟨y, z⟩)
    (by
      intro t ht e
      have ne : t ≠ x := by intro e2; subst e2; rw [fu_s] at e; omega
      rw [N _ ne] at e
      have y := C2 t w ht hw e
      exact ⟨by unfold ds_H; omega, y.2⟩)
    (by
      intro z; unfold ds_I at z; omega)
    (by
      intro t ht e
      have ne : t ≠ x := by intro e2; subst e2; rw [fu_s] at e; omega
      rw [N _ ne] at e
      have y := I2 t w ht hw e
      unfold ds_I at y; omega)
    (by
      obtain ⟨y1, y2, y3⟩ := H1 w hw
      refine ⟨y1, fun r => ?_, fun r => by omega⟩
      obtain ⟨y, z⟩ := y2 r
      rw [N _ (by intro e; rw [e] at z; omega)]
      exact ⟨y, z⟩)
    (by
      intro t i ht e
      have ne : t ≠ x := by intro e2; subst e2; rw [fu_s] at e; omega
      rw [N _ ne] at e ⊢
      obtain ⟨y1, y2, y3⟩ := H2 t w i ht hw e
      refine ⟨y1, y2, fun r => ?_⟩
      obtain ⟨y, z⟩ := y3 r
      rw [N _ (by intro e2; rw [e2] at z; omega)]
      exact ⟨y, z⟩)
  simp only [fu_id] at key
  exact key
/-- the spawner is set aside -/
theorem ds_hold (h : ds_D rg wc m ph tp bt sb st vb tb pv cu it he hn bl sl lo) (hwc : wc ≤ 4) (hm : m ≤ 48) {w : Nat} (hw : w < wc) (hp : ph w = 11) :
    ds_D rg wc m (fu ph w (21)) tp bt sb st vb tb pv cu it (fu he w (cu w)) (fu hn w (hn w + 1)) (fu bl (cu w) (he w)) sl (fu lo (cu w) (1000 + 4 * hn w + w)) := by
  have h' := h
  obtain ⟨A, B, C, D1, D2, C1, C2, I1, I2, H1, H2, L, U⟩ := h
  have a := A w hw
  rw [hp] at a
  have a2 : 0 ≤ tp w ∧ tp w ≤ tb w ∧ tb w ≤ vb w ∧ vb w ≤ 7 + m := by unfold ds_W at a; omega
  obtain ⟨x1, x2⟩ := C1 w hw (by unfold ds_H; omega)
  generalize ex : cu w = x at *
  have N : ∀ t, t ≠ x → fu lo x (1000 + 4 * hn w + w) t = lo t := fun t q => fu_n q
  have key := ds_mv h' hwc hm hw (x := x) (b := 1000 + 4 * hn w + w) (p' := 21) (tp' := tp w) (bt' := bt w) (sb' := sb w) (st' := st w) (vb' := vb w) (tb' := tb w) (pv' := pv w) (cu' := cu w) (it' := it w) (he' := x) (hn' := hn w + 1) (bl' := fu bl (x) (he w))
    (Or.inr (Or.inl x2)) (Or.inr (Or.inr (Or.inr (Or.inr ⟨hn w, rfl⟩)))) (fun t ht q r e => by have := (H2 t w (hn w) ht hw e).1; omega) (fun t v ht hv hvw z => fu_n (by intro e; subst e; exact ds_atn (by omega) (by omega) hvw z (Or.inl x2))) (Or.inl ⟨rfl, id⟩)
    (by unfold ds_W at a ⊢; omega) (by omega) (by omega)
    (by
      intro i h1 h2
      obtain ⟨y, z⟩ := D1 w i hw h1 h2
      rw [N _ (by intro e; rw [e] at z; omega)]
      exact ⟨y, z⟩)
    (by
      intro t i ht e1 e2 e3
      have ne : t ≠ x := by intro e; subst e; rw [fu_s] at e2; omega
      rw [N _ ne] at e1 e2 e3
      exact D2 t w i ht hw e1 e2 e3)
    (by
      intro z; unfold ds_H at z; omega)
    (by
      intro t ht e
      have ne : t ≠ x := by intro e2; subst e2; rw [fu_s] at e; omega
      rw [N _ ne] at e
      have y := C2 t w ht hw e
      unfold ds_H at y; omega)
    (by
      intro _
      obtain ⟨y, z⟩ := I1 w hw (by unfold ds_I; omega)
      rw [N _ (by intro e; rw [e] at z; omega)]
      exact ⟨y, z⟩)
    (by
      intro t ht e
      have ne : t ≠ x := by intro e2; subst e2; rw [fu_s] at e; omega
      rw [N _ ne] at e
      have y := I2 t w ht hw e
      exact ⟨by unfold ds_I; omega, y.2⟩)
    (by
      refine ⟨fun r => by omega, fun r => ?_, fun r => by omega⟩; rw [fu_s]; exact ⟨x1, by omega⟩)
    (by
      intro t i ht e
      obtain ⟨w1, w2, w3⟩ := H1 w hw
      by_cases ne : t = x
      · subst ne
        rw [fu_s] at e ⊢
        have ei : i = hn w := by omega
        rw [fu_s, ei]
        refine ⟨by omega, fun r => w1 r, fun r => ?_⟩
        obtain ⟨y, z⟩ := w2 r
        rw [N _ (by intro e2; rw [e2] at z; omega)]
        exact ⟨y, by omega⟩
      · rw [N _ ne] at e ⊢
        obtain ⟨y1, y2, y3⟩ := H2 t w i ht hw e
        rw [fu_n ne]
        refine ⟨by omega, y2, fun r => ?_⟩
        obtain ⟨y, z⟩ := y3 r
        rw [N _ (by intro e2; rw [e2] at z; omega)]
        exact ⟨y, z⟩)
  simp only [fu_id] at key
  exact key
/-- the task in hand waits, or has ended and told its parent -/
theorem ds_rel (h : ds_D rg wc m ph tp bt sb st vb tb pv cu it he hn bl sl lo) (hwc : wc ≤ 4) (hm : m ≤ 48) {w : Nat} (hw : w < wc) {c : Nat} (hcc : c ≤ 1) {q : Nat} (hp : ph w = q) (hq : q = 16 ∨ q = 19) :
    ds_D rg wc m (fu ph w (20)) tp bt sb st vb tb pv cu it he hn bl sl (fu lo (cu w) (c)) := by
  have h' := h
  obtain ⟨A, B, C, D1, D2, C1, C2, I1, I2, H1, H2, L, U⟩ := h
  have a := A w hw
  rw [hp] at a
  have a2 : 0 ≤ tp w ∧ tp w ≤ tb w ∧ tb w ≤ vb w ∧ vb w ≤ 7 + m := by unfold ds_W at a; omega
  obtain ⟨x1, x2⟩ := C1 w hw (by unfold ds_H; omega)
  generalize ex : cu w = x at *
  have N : ∀ t, t ≠ x → fu lo x (c) t = lo t := fun t q => fu_n q
  have key := ds_mv h' hwc hm hw (x := x) (b := c) (p' := 20) (tp' := tp w) (bt' := bt w) (sb' := sb w) (st' := st w) (vb' := vb w) (tb' := tb w) (pv' := pv w) (cu' := cu w) (it' := it w) (he' := he w) (hn' := hn w) (bl' := bl)
    (Or.inr (Or.inl x2)) (Or.inl hcc) (fun t ht q r => by omega) (fun _ _ _ _ _ _ => rfl) (Or.inl ⟨rfl, id⟩)
    (by unfold ds_W at a ⊢; omega) (by omega) (by omega)
    (by
      intro i h1 h2
      obtain ⟨y, z⟩ := D1 w i hw h1 h2
      rw [N _ (by intro e; rw [e] at z; omega)]
      exact ⟨y, z⟩)
    (by
      intro t i ht e1 e2 e3
      have ne : t ≠ x := by intro e; subst e; rw [fu_s] at e3; omega
      rw [N _ ne] at e1 e2 e3
      exact D2 t w i ht hw e1 e2 e3)
    (by
      intro z; unfold ds_H at z; omega)
    (by
      intro t ht e
      have ne : t ≠ x := by intro e2; subst e2; rw [fu_s] at e; omega
      rw [N _ ne] at e
      have y := C2 t w ht hw e
      unfold ds_H at y; omega)
    (by
      intro z; unfold ds_I at z; omega)
    (by
      intro t ht e
      have ne : t ≠ x := by intro e2; subst e2; rw [fu_s] at e; omega
      rw [N _ ne] at e
      have y := I2 t w ht hw e
      unfold ds_I at y; omega)
    (by
      obtain ⟨y1, y2, y3⟩ := H1 w hw
      refine ⟨y1, fun r => ?_, fun r => by omega⟩
      obtain ⟨y, z⟩ := y2 r
      rw [N _ (by intro e; rw [e] at z; omega)]
      exact ⟨y, z⟩)
    (by
      intro t i ht e
      have ne : t ≠ x := by intro e2; subst e2; rw [fu_s] at e; omega
      rw [N _ ne] at e ⊢
      obtain ⟨y1, y2, y3⟩ := H2 t w i ht hw e
      refine ⟨y1, y2, fun r => ?_⟩
      obtain ⟨y, z⟩ := y3 r
      rw [N _ (by intro e2; rw [e2] at z; omega)]
      exact ⟨y, z⟩)
  simp only [fu_id] at key
  exact key
/-- a task set aside comes back into the hand -/
theorem ds_rest1 (h : ds_D rg wc m ph tp bt sb st vb tb pv cu it he hn bl sl lo) (hwc : wc ≤ 4) (hm : m ≤ 48) {w : Nat} (hw : w < wc) (hp : ph w = 20) (hs : 0 < hn w) :
    ds_D rg wc m (fu ph w (14)) tp bt sb st vb tb pv (fu cu w (he w)) it (fu he w (bl (he w))) (fu hn w (hn w - 1)) (fu bl (he w) 99) sl (fu lo (he w) (10 + w)) := by
  have h' := h
  obtain ⟨A, B, C, D1, D2, C1, C2, I1, I2, H1, H2, L, U⟩ := h
  have a := A w hw
  rw [hp] at a
  have a2 : 0 ≤ tp w ∧ tp w ≤ tb w ∧ tb w ≤ vb w ∧ vb w ≤ 7 + m := by unfold ds_W at a; omega
  obtain ⟨x1, x2⟩ := (H1 w hw).2.1 hs
  generalize ex : he w = x at *
  have N : ∀ t, t ≠ x → fu lo x (10 + w) t = lo t := fun t q => fu_n q
  have key := ds_mv h' hwc hm hw (x := x) (b := 10 + w) (p' := 14) (tp' := tp w) (bt' := bt w) (sb' := sb w) (st' := st w) (vb' := vb w) (tb' := tb w) (pv' := pv w) (cu' := x) (it' := it w) (he' := bl (x)) (hn' := hn w - 1) (bl' := fu bl (x) 99)
    (Or.inr (Or.inr (Or.inr (Or.inr ⟨hn w - 1, by omega⟩)))) (Or.inr (Or.inl rfl)) (fun t ht q r => by omega) (fun t v ht hv hvw z => fu_n (by intro e; subst e; exact ds_atn (by omega) (by omega) hvw z (Or.inr (Or.inr (Or.inr ⟨hn w - 1, by omega⟩))))) (Or.inl ⟨rfl, id⟩)
    (by unfold ds_W at a ⊢; omega) (by omega) (by omega)
    (by
      intro i h1 h2
      obtain ⟨y, z⟩ := D1 w i hw h1 h2
      rw [N _ (by intro e; rw [e] at z; omega)]
      exact ⟨y, z⟩)
    (by
      intro t i ht e1 e2 e3
      have ne : t ≠ x := by intro e; subst e; rw [fu_s] at e3; omega
      rw [N _ ne] at e1 e2 e3
      exact D2 t w i ht hw e1 e2 e3)
    (by
      intro _; rw [fu_s]; exact ⟨x1, rfl⟩)
    (by
      intro t ht e
      by_cases ne : t = x
      · exact ⟨by unfold ds_H; omega, ne.symm⟩
      · rw [N _ ne] at e
        have y := C2 t w ht hw e
        unfold ds_H at y; omega)
    (by
      intro z; unfold ds_I at z; omega)
    (by
      intro t ht e
      have ne : t ≠ x := by intro e2; subst e2; rw [fu_s] at e; omega
      rw [N _ ne] at e
      have y := I2 t w ht hw e
      unfold ds_I at y; omega)
    (by
      obtain ⟨y1, y2, y3⟩ := H2 x w (hn w - 1) x1 hw (by omega)
      refine ⟨fun r => y2 r, fun r => ?_, fun r => by omega⟩
      obtain ⟨y, z⟩ := y3 r
      rw [N _ (by intro e2; rw [e2] at z; omega)]
      exact ⟨y, by omega⟩)
    (by
      intro t i ht e
      have ne : t ≠ x := by intro e2; subst e2; rw [fu_s] at e; omega
      rw [N _ ne] at e ⊢
      obtain ⟨y1, y2, y3⟩ := H2 t w i ht hw e
      rw [fu_n ne]
      have ni : i ≠ hn w - 1 := by
        intro e2
        exact ne (U t x ht x1 (by omega) (by omega))
      refine ⟨by omega, y2, fun r => ?_⟩
      obtain ⟨y, z⟩ := y3 r
      rw [N _ (by intro e2; rw [e2] at z; omega)]
      exact ⟨y, z⟩)
  simp only [fu_id] at key
  exact key
/-- a waiting task comes into the hand -/
theorem ds_wake (h : ds_D rg wc m ph tp bt sb st vb tb pv cu it he hn bl sl lo) (hwc : wc ≤ 4) (hm : m ≤ 48) {w : Nat} (hw : w < wc) {p : Nat} (hp : ph w = 20) (hpm : p < m) (hl : lo p = 1) :
    ds_D rg wc m (fu ph w (17)) tp bt sb st vb tb pv (fu cu w (p)) it he hn bl sl (fu lo (p) (10 + w)) := by
  have h' := h
  obtain ⟨A, B, C, D1, D2, C1, C2, I1, I2, H1, H2, L, U⟩ := h
  have a := A w hw
  rw [hp] at a
  have a2 : 0 ≤ tp w ∧ tp w ≤ tb w ∧ tb w ≤ vb w ∧ vb w ≤ 7 + m := by unfold ds_W at a; omega
  have x1 := hpm
  have x2 := hl
  generalize ex : p = x at *
  have N : ∀ t, t ≠ x → fu lo x (10 + w) t = lo t := fun t q => fu_n q
  have key := ds_mv h' hwc hm hw (x := x) (b := 10 + w) (p' := 17) (tp' := tp w) (bt' := bt w) (sb' := sb w) (st' := st w) (vb' := vb w) (tb' := tb w) (pv' := pv w) (cu' := x) (it' := it w) (he' := he w) (hn' := hn w) (bl' := bl)
    (Or.inl (by omega)) (Or.inr (Or.inl rfl)) (fun t ht q r => by omega) (fun _ _ _ _ _ _ => rfl) (Or.inl ⟨rfl, id⟩)
    (by unfold ds_W at a ⊢; omega) (by omega) (by omega)
    (by
      intro i h1 h2
      obtain ⟨y, z⟩ := D1 w i hw h1 h2
      rw [N _ (by intro e; rw [e] at z; omega)]
      exact ⟨y, z⟩)
    (by
      intro t i ht e1 e2 e3
      have ne : t ≠ x := by intro e; subst e; rw [fu_s] at e3; omega
      rw [N _ ne] at e1 e2 e3
      exact D2 t w i ht hw e1 e2 e3)
    (by
      intro _; rw [fu_s]; exact ⟨x1, rfl⟩)
    (by
      intro t ht e
      by_cases ne : t = x
      · exact ⟨by unfold ds_H; omega, ne.symm⟩
      · rw [N _ ne] at e
        have y := C2 t w ht hw e
        unfold ds_H at y; omega)
    (by
      intro z; unfold ds_I at z; omega)
    (by
      intro t ht e
      have ne : t ≠ x := by intro e2; subst e2; rw [fu_s] at e; omega
      rw [N _ ne] at e
      have y := I2 t w ht hw e
      unfold ds_I at y; omega)
    (by
      obtain ⟨y1, y2, y3⟩ := H1 w hw
      refine ⟨y1, fun r => ?_, fun r => by omega⟩
      obtain ⟨y, z⟩ := y2 r
      rw [N _ (by intro e; rw [e] at z; omega)]
      exact ⟨y, z⟩)
    (by
      intro t i ht e
      have ne : t ≠ x := by intro e2; subst e2; rw [fu_s] at e; omega
      rw [N _ ne] at e ⊢
      obtain ⟨y1, y2, y3⟩ := H2 t w i ht hw e
      refine ⟨y1, y2, fun r => ?_⟩
      obtain ⟨y, z⟩ := y3 r
      rw [N _ (by intro e2; rw [e2] at z; omega)]
      exact ⟨y, z⟩)
  simp only [fu_id] at key
  exact key
/-- a new child is being pushed -/
theorem ds_new (h : ds_D rg wc m ph tp bt sb st vb tb pv cu it he hn bl sl lo) (hwc : wc ≤ 4) (hm : m ≤ 48) {w : Nat} (hw : w < wc) {p : Nat} (hp : ph w = 14) (hpm : p < m) (hl : lo p = 1) (hv : vb w + 1 ≤ 7 + m) :
    ds_D rg wc m (fu ph w (15)) tp bt sb st vb tb pv cu (fu it w (p)) he hn bl sl (fu lo (p) (20 + w)) := by
  have h' := h
  obtain ⟨A, B, C, D1, D2, C1, C2, I1, I2, H1, H2, L, U⟩ := h
  have a := A w hw
  rw [hp] at a
  have a2 : 0 ≤ tp w ∧ tp w ≤ tb w ∧ tb w ≤ vb w ∧ vb w ≤ 7 + m := by unfold ds_W at a; omega
  have x1 := hpm
  have x2 := hl
  generalize ex : p = x at *
  have N : ∀ t, t ≠ x → fu lo x (20 + w) t = lo t := fun t q => fu_n q
  have key := ds_mv h' hwc hm hw (x := x) (b := 20 + w) (p' := 15) (tp' := tp w) (bt' := bt w) (sb' := sb w) (st' := st w) (vb' := vb w) (tb' := tb w) (pv' := pv w) (cu' := cu w) (it' := x) (he' := he w) (hn' := hn w) (bl' := bl)
    (Or.inl (by omega)) (Or.inr (Or.inr (Or.inl rfl))) (fun t ht q r => by omega) (fun _ _ _ _ _ _ => rfl) (Or.inl ⟨rfl, id⟩)
    (by unfold ds_W at a ⊢; omega) (by omega) (by omega)
    (by
      intro i h1 h2
      obtain ⟨y, z⟩ := D1 w i hw h1 h2
      rw [N _ (by intro e; rw [e] at z; omega)]
      exact ⟨y, z⟩)
    (by
      intro t i ht e1 e2 e3
      have ne : t ≠ x := by intro e; subst e; rw [fu_s] at e3; omega
      rw [N _ ne] at e1 e2 e3
      exact D2 t w i ht hw e1 e2 e3)
    (by
      intro _
      obtain ⟨y, z⟩ := C1 w hw (by unfold ds_H; omega)
      rw [N _ (by intro e; rw [e] at z; omega)]
      exact ⟨y, z⟩)
    (by
      intro t ht e
      have ne : t ≠ x := by intro e2; subst e2; rw [fu_s] at e; omega
      rw [N _ ne] at e
      have y := C2 t w ht hw e
      exact ⟨by unfold ds_H; omega, y.2⟩)
    (by
      intro _; rw [fu_s]; exact ⟨x1, rfl⟩)
    (by
      intro t ht e
      by_cases ne : t = x
      · exact ⟨by unfold ds_I; omega, ne.symm⟩
      · rw [N _ ne] at e
        have y := I2 t w ht hw e
        unfold ds_I at y; omega)
    (by
      obtain ⟨y1, y2, y3⟩ := H1 w hw
      refine ⟨y1, fun r => ?_, fun r => by omega⟩
      obtain ⟨y, z⟩ := y2 r
      rw [N _ (by intro e; rw [e] at z; omega)]
      exact ⟨y, z⟩)
    (by
      intro t i ht e
      have ne : t ≠ x := by intro e2; subst e2; rw [fu_s] at e; omega
      rw [N _ ne] at e ⊢
      obtain ⟨y1, y2, y3⟩ := H2 t w i ht hw e
      refine ⟨y1, y2, fun r => ?_⟩
      obtain ⟨y, z⟩ := y3 r
      rw [N _ (by intro e2; rw [e2] at z; omega)]
      exact ⟨y, z⟩)
  simp only [fu_id] at key
  exact key
/-- room for one more task -/
theorem ds_ext (h : ds_D rg wc m ph tp bt sb st vb tb pv cu it he hn bl sl lo) : ds_D rg wc (m + 1) ph tp bt sb st vb tb pv cu it he hn (fu bl m 99) sl (fu lo m 1) := by
  obtain ⟨A, B, C, D1, D2, C1, C2, I1, I2, H1, H2, L, U⟩ := h
  have N : ∀ t, t < m → fu lo m 1 t = lo t := fun t q => fu_n (by omega)
  refine ⟨?_, B, C, ?_, ?_, ?_, ?_, ?_, ?_, ?_, ?_, ?_, ?_⟩
  · intro v hv; have a := A v hv; unfold ds_W at a ⊢; omega
  · intro v i hv h1 h2
    obtain ⟨y, z⟩ := D1 v i hv h1 h2
    rw [N _ y]; exact ⟨by omega, z⟩
  · intro t v i ht hv e1 e2 e3
    have lt : t < m := by
      by_cases q : t = m
      · subst q; rw [fu_s] at e3; omega
      · omega
    rw [N _ lt] at e1 e2 e3
    exact D2 t v i lt hv e1 e2 e3
  · intro v hv r
    obtain ⟨y, z⟩ := C1 v hv r
    rw [N _ y]; exact ⟨by omega, z⟩
  · intro t v ht hv e
    have lt : t < m := by
      by_cases q : t = m
      · subst q; rw [fu_s] at e; omega
      · omega
    rw [N _ lt] at e
    exact C2 t v lt hv e
  · intro v hv r
    obtain ⟨y, z⟩ := I1 v hv r
    rw [N _ y]; exact ⟨by omega, z⟩
  · intro t v ht hv e
    have lt : t < m := by
      by_cases q : t = m
      · subst q; rw [fu_s] at e; omega
      · omega
    rw [N _ lt] at e
    exact I2 t v lt hv e
  · intro v hv
    obtain ⟨y1, y2, y3⟩ := H1 v hv
    refine ⟨y1, fun r => ?_, y3⟩
    obtain ⟨y, z⟩ := y2 r
    rw [N _ y]; exact ⟨by omega, z⟩
  · intro t v i ht hv e
    have lt : t < m := by
      by_cases q : t = m
      · subst q; rw [fu_s] at e; omega
      · omega
    rw [N _ lt] at e ⊢
    obtain ⟨y1, y2, y3⟩ := H2 t v i lt hv e
    rw [fu_n (show t ≠ m by omega)]
    refine ⟨y1, y2, fun r => ?_⟩
    obtain ⟨y, z⟩ := y3 r
    rw [N _ y]; exact ⟨by omega, z⟩
  · intro t ht
    by_cases q : t = m
    · subst q; rw [fu_s]; exact Or.inl (Nat.le_refl _)
    · rw [N _ (by omega)]; exact L t (by omega)
  · intro t t' ht ht' h1 h2
    have ne : t ≠ m := by intro e; subst e; rw [fu_s] at h1; omega
    have ne' : t' ≠ m := by intro e; subst e; rw [fu_s] at h2; omega
    rw [N _ (by omega)] at h1 h2
    rw [N _ (by omega)] at h2
    exact U t t' (by omega) (by omega) h1 h2
end
end
section
/-! while the run is not over, some worker is not stealing; the measure -/
section
variable {rg wc m : Nat} {ph : Nat → Nat} {tp bt sb st vb tb : Nat → Int} {pv cu it he hn bl sl lo par : Nat → Nat} {jn : Nat → Int} {dn wt : Nat → Prop}
theorem ds_live (h : ds_D rg wc m ph tp bt sb st vb tb pv cu it he hn bl sl lo) (j : jk_J wc m ph cu it par jn lo) (e : ei_E wc m ph cu lo dn wt) (hm : 0 < m) (hp : ∀ c, 0 < c → c < m → par c < c) : ∃ w, w < wc ∧ ¬ (6 ≤ ph w ∧ ph w ≤ 9) := by
  refine Classical.byContradiction (fun hno => ?_)
  have S : ∀ w, w < wc → 6 ≤ ph w ∧ ph w ≤ 9 := fun w hw => Classical.byContradiction (fun z => hno ⟨w, hw, z⟩)
  obtain ⟨A, B, C, D1, D2, C1, C2, I1, I2, H1, H2, L, U⟩ := h
  have Q : ∀ t, t < m → lo t ≤ 1 := by
    intro t ht
    rcases L t ht with z | ⟨w, hw, z⟩
    · exact z
    · have s := S w hw
      rcases z with z | z | ⟨i, z, z2⟩ | ⟨i, z⟩
      · have y := (C2 t w ht hw z).1; unfold ds_H at y; omega
      · have y := (I2 t w ht hw z).1; unfold ds_I at y; omega
      · have y := D2 t w i ht hw (by omega) z2 (by omega)
        have a := A w hw
        unfold ds_W at a
        omega
      · have y := (H2 t w i ht hw z).1
        have := (H1 w hw).2.2 (by omega)
        omega
  have R : ∀ d t, m - t ≤ d → t < m → lo t ≠ 1 := by
    intro d
    induction d with
    | zero => intro t h1 h2; omega
    | succ d ih =>
      intro t h1 h2 h3
      obtain ⟨c, c1, c2, c3, c4⟩ := jk_pos (j.2.2.2.1 t h2 h3)
      have := hp c c2 c1
      have q := Q c c1
      exact ih c (by omega) c1 (by omega)
  have q0 := Q 0 hm
  have r0 := R m 0 (by omega) hm
  have e0 := e.1
  omega
/-- what a phase is worth -/
def mu_B (p : Nat) : Nat := if p = 17 then 0 else if p = 16 then 1 else if p = 14 then 2 else if p = 18 then 3 else if p = 13 then 3 else if p = 12 then 4 else if p = 11 then 5 else if p = 10 then 6 else if p = 15 then 7 else if p = 19 then 1 else if p = 20 then 10 else if p = 21 then 3 else if 6 ≤ p then 3 else 9 - p
def mu_L (l : Nat) : Nat := if l ≤ 1 then 0 else 16
def mu_M (m : Nat) (ph lo : Nat → Nat) : Nat := sn_s (fun w => mu_B (ph w)) 4 + sn_s (fun t => mu_L (lo t)) m
theorem mu_ph {w p' : Nat} (hw : w < 4) : mu_M m (fu ph w p') lo + mu_B (ph w) = mu_M m ph lo + mu_B p' := by
  unfold mu_M
  have := sn_u (f := fun w => mu_B (ph w)) (t := w) (v := mu_B p') (n := 4) hw
  have e : sn_s (fun v => mu_B (fu ph w p' v)) 4 = sn_s (fu (fun w => mu_B (ph w)) w (mu_B p')) 4 := sn_c (fun i _ => by unfold fu; split <;> rfl)
  rw [e]; omega
theorem mu_lo {x b : Nat} (hx : x < m) : mu_M m ph (fu lo x b) + mu_L (lo x) = mu_M m ph lo + mu_L b := by
  unfold mu_M
  have := sn_u (f := fun w => mu_L (lo w)) (t := x) (v := mu_L b) (n := m) hx
  have e : sn_s (fun v => mu_L (fu lo x b v)) m = sn_s (fu (fun w => mu_L (lo w)) x (mu_L b)) m := sn_c (fun i _ => by unfold fu; split <;> rfl)
  rw [e]; omega
theorem mu_ext {b : Nat} : mu_M (m + 1) ph (fu lo m b) = mu_M m ph lo + mu_L b := by
  unfold mu_M
  rw [sn_1 _ m]
  have e : sn_s (fun v => mu_L (fu lo m b v)) m = sn_s (fun v => mu_L (lo v)) m := sn_c (fun i hi => by rw [fu_n (by omega)])
  rw [e, fu_s]; omega
end
end
section
/-! the scheduler's arrays as they stand -/
section
theorem pk_sub {a b : Nat} (h : b ≤ a) : nI a - nI b = nI (a - b) := (Int32.ofNat_sub a b h).symm
theorem pk_mul (a b : Nat) : nI a * nI b = nI (a * b) := (Int32.ofNat_mul a b).symm
theorem pk_div {a d : Nat} (ha : a < 2 ^ 31) (h0 : 0 < d) (hd : d < 2 ^ 31) : nI a / nI d = nI (a / d) := by
  apply Int32.toInt_inj.mp
  rw [lg_idiv_nonneg (by rw [nI_toInt ha]; omega) (by rw [nI_toInt hd]; omega), nI_toInt ha, nI_toInt hd, nI_toInt (Nat.lt_of_le_of_lt (Nat.div_le_self a d) ha)]
  first | rfl | exact (Int.natCast_ediv _ _).symm
theorem pk_rem {a d : Nat} (ha : a < 2 ^ 31) (h0 : 0 < d) (hd : d < 2 ^ 31) : nI a - nI a / nI d * nI d = nI (a % d) := by
  rw [pk_div ha h0 hd, pk_mul, pk_sub (Nat.div_mul_le_self a d)]
  exact congrArg nI (by have := Nat.div_add_mod' a d; omega)
/-- an index, or none (99), or too large (100) -/
def dN (x : Int32) : Nat := if x < 0 then 99 else if x.toNatClampNeg < 99 then x.toNatClampNeg else 100
def dF (a : Nat → Int32) : Nat → Nat := fun i => dN (a i)
theorem dF_u (a : Nat → Int32) (k : Nat) (x : Int32) : dF (upd a k x) = fu (dF a) k (dN x) := by
  funext j; unfold dF upd fu; split <;> rfl
theorem dN_m : dN (-1) = 99 := by decide
theorem dN_n {n : Nat} (h : n < 99) : dN (nI n) = n := by
  unfold dN
  rw [if_neg (nI_pos (by omega)), nI_clamp (by omega), if_pos h]
theorem dN_neg {x : Int32} : dN x = 99 ↔ x < 0 := by
  unfold dN
  by_cases h : x < 0
  · rw [if_pos h]; exact ⟨fun _ => h, fun _ => rfl⟩
  · rw [if_neg h]
    refine ⟨fun z => ?_, fun z => absurd z h⟩
    by_cases q : x.toNatClampNeg < 99
    · rw [if_pos q] at z; omega
    · rw [if_neg q] at z; omega
theorem dN_lt {x : Int32} {n : Nat} (e : dN x = n) (h : n < 99) : x = nI n := by
  unfold dN at e
  by_cases q : x < 0
  · rw [if_pos q] at e; omega
  · rw [if_neg q] at e
    obtain ⟨j, hj, rfl⟩ := nI_of q
    rw [nI_clamp hj] at e
    by_cases r : j < 99
    · rw [if_pos r] at e; rw [e]
    · rw [if_neg r] at e; omega
theorem fu_fu {α : Type} {f : Nat → α} {k : Nat} {x y : α} : fu (fu f k x) k y = fu f k y := by
  funext j; unfold fu; split <;> rfl
/-- the slot of an index -/
theorem ds_slotI {rg w : Nat} {x : Int32} (hr : 1 ≤ rg ∧ rg ≤ 8) (hw : w < 4) (h0 : 0 ≤ x.toInt) : nI w * 8 + (x - x / nI rg * nI rg) = nI (ds_ix rg w x.toInt) := by
  have hx : ¬ x < 0 := by
    rw [Int32.lt_iff_toInt_lt, show (0 : Int32).toInt = 0 from by decide]; omega
  obtain ⟨j, hj, rfl⟩ := nI_of hx
  rw [pk_rem hj (by omega) (by omega), nI_toInt hj]
  show nI w * nI 8 + nI (j % rg) = nI (8 * w + (j : Int).toNat % rg)
  rw [pk_mul, nI_add, Nat.mul_comm]
  rfl
def xs_S (wc rg m : Nat) (par : Nat → Nat) (dn wt : Nat → Prop) (mu : Nat) (xtop xbot xslo xph xcu xhe xit xst xsb xpv xjn xbl : Nat → Int32) : Prop :=
  ∃ (vb tb : Nat → Int) (hn lo : Nat → Nat), ds_D rg wc m (dF xph) (tI xtop) (tI xbot) (tI xsb) (tI xst) vb tb (dF xpv) (dF xcu) (dF xit) (dF xhe) hn (dF xbl) (dF xslo) lo ∧ jk_J wc m (dF xph) (dF xcu) (dF xit) par (tI xjn) lo ∧ ei_E wc m (dF xph) (dF xcu) lo dn wt ∧ mu_M m (dF xph) lo = mu ∧ (∀ w, w < wc → dF xph w ≤ 19)
variable {wc rg m : Nat} {par : Nat → Nat} {dn wt : Nat → Prop} {mu : Nat} {xtop xbot xslo xph xcu xhe xit xst xsb xpv xjn xbl : Nat → Int32}
theorem xs_loc (h : xs_S wc rg m par dn wt mu xtop xbot xslo xph xcu xhe xit xst xsb xpv xjn xbl) (hwc : wc ≤ 4) {w p p' : Nat} (hw : w < wc) (hp : dF xph w = p) {P B S T V I : Int32} (eP : dN P = p') (lP : p' ≤ 19)
    (c : ∀ vb tb : Nat → Int, (∀ v, v < wc → ds_W rg m (dF xph v) (tI xtop v) (tI xbot v) (tI xsb v) (tI xst v) (vb v) (tb v)) → ds_V rg wc p (tI xst w) (dF xpv w) (dF xit w) (tI xtop) tb (dF xslo) → ∃ tb', ds_W rg m p' (tI xtop w) B.toInt S.toInt T.toInt (vb w) tb' ∧ (tI xtop w < tb w → tI xtop w < tb') ∧ ds_V rg wc p' T.toInt (dN V) (dN I) (tI xtop) (fu tb w tb') (dF xslo))
    (h4 : p' = 4 → tI xtop w = T.toInt → dN I = dF xslo (ds_ix rg w S.toInt)) (h13 : p' ≠ 13)
    (hc : ds_H p' ↔ ds_H p) (hi : ds_I p' (dN I) ↔ ds_I p (dF xit w)) (hi2 : ds_I p' (dN I) → dN I = dF xit w) (hh : p' ≤ 9 → p ≤ 9)
    (hq : ds_H p' → jk_q p' = jk_q p) (h17 : p' < 15) (h18 : 10 ≤ p' ∧ p' ≤ 18 → 10 ≤ p ∧ p ≤ 18) :
    ∃ mu', mu' + mu_B p = mu + mu_B p' ∧ xs_S wc rg m par dn wt mu' xtop (upd xbot w B) xslo (upd xph w P) xcu xhe (upd xit w I) (upd xst w T) (upd xsb w S) (upd xpv w V) xjn xbl := by
  obtain ⟨vb, tb, hn, lo, D, J, E, M, Pm⟩ := h
  subst hp
  obtain ⟨tb', c1, c2, c3⟩ := c vb tb D.1 (D.2.1 w hw)
  have H1 := D.2.2.2.2.2.2.2.2.2.1 w hw
  have D' := ds_loc D hw (p' := p') (bt' := B.toInt) (sb' := S.toInt) (st' := T.toInt) (tb' := tb') (pv' := dN V) (cu' := dF xcu w) (it' := dN I) c1 c2 c3 h4 (fun z => absurd z h13) hc hi hi2 (fun _ => rfl) (fun z => H1.2.2 (hh z))
  have J' := jk_loc J hw (p' := p') (cu' := dF xcu w) (it' := dN I) (fun z => ⟨hc.mp z, rfl, hq z⟩) (fun z => by omega) (fun z => by omega)
  have E' := ei_loc E hw (p' := p') (cu' := dF xcu w) (fun _ => rfl) (fun z => by omega) h18 (fun z => by omega)
  have M' := mu_ph (m := m) (ph := dF xph) (lo := lo) (w := w) (p' := p') (by omega)
  simp only [fu_id] at D' J' E'
  refine ⟨mu_M m (fu (dF xph) w p') lo, by omega, vb, fu tb w tb', hn, lo, ?_, ?_, ?_, ?_, ?_⟩
  · simp only [dF_u, tI_u, eP]; exact D'
  · simp only [dF_u, tI_u, eP]; exact J'
  · simp only [dF_u, tI_u, eP]; exact E'
  · simp only [dF_u, tI_u, eP]
  · intro v hv
    simp only [dF_u, eP]
    by_cases q : v = w
    · subst q; rw [fu_s]; exact lP
    · rw [fu_n q]; exact Pm v hv
end
end
section
/-! turns that move no task (printed by mk11.py) -/
section
variable {wc rg m : Nat} {par : Nat → Nat} {dn wt : Nat → Prop} {mu : Nat} {xtop xbot xslo xph xcu xhe xit xst xsb xpv xjn xbl : Nat → Int32}
theorem us_id {f : Nat → Int32} {k : Nat} : upd f k (f k) = f := fu_id
theorem ii_p {x : Int32} (h : -100 ≤ x.toInt ∧ x.toInt ≤ 1000) : (x + 1).toInt = x.toInt + 1 := by
  have e : (1 : Int32).toInt = 1 := by decide
  rw [Jvm.Kit.i32_add (by omega) (by omega), e]
theorem ii_m {x : Int32} (h : -100 ≤ x.toInt ∧ x.toInt ≤ 1000) : (x - 1).toInt = x.toInt - 1 := by
  have e : (1 : Int32).toInt = 1 := by decide
  rw [Jvm.Kit.i32_sub (by omega) (by omega), e]
theorem ds_V0 {p' : Nat} {st : Int} {pv it : Nat} {tp tb : Nat → Int} {sl : Nat → Nat} (h : p' < 6 ∨ 9 < p') : ds_V rg wc p' st pv it tp tb sl := by
  unfold ds_V; refine ⟨?_, ?_, ?_, ?_⟩ <;> intro _ <;> omega
theorem ds_V6 {st : Int} {pv it : Nat} {tp tb : Nat → Int} {sl : Nat → Nat} (h : pv < wc) : ds_V rg wc 6 st pv it tp tb sl := by
  unfold ds_V; refine ⟨fun _ => h, ?_, ?_, ?_⟩ <;> intro _ <;> omega

theorem xs_pop0 (h : xs_S wc rg m par dn wt mu xtop xbot xslo xph xcu xhe xit xst xsb xpv xjn xbl) (hwc : wc ≤ 4) (hr : 1 ≤ rg ∧ rg ≤ 8) (hm : m ≤ 48) {w : Nat} (hw : w < wc) (hp : xph w = 0) : ∃ mu', mu' < mu ∧ xs_S wc rg m par dn wt mu' xtop xbot xslo (upd xph w 1) xcu xhe xit xst (upd xsb w (xbot w - 1)) xpv xjn xbl := by
  have hp' : dF xph w = 0 := by unfold dF; rw [hp]; decide
  obtain ⟨mu', e, k⟩ := xs_loc h hwc hw hp' (P := 1) (B := xbot w) (S := xbot w - 1) (T := xst w) (V := xpv w) (I := xit w) (p' := 1) (by decide) (by decide)
    (by
      intro vb tb A v
      have a := A w hw
      rw [hp'] at a
      simp only [tI] at a ⊢
      have a2 : -1 ≤ (xbot w).toInt ∧ (xbot w).toInt ≤ 55 ∧ 0 ≤ (xtop w).toInt ∧ (xtop w).toInt ≤ 55 := by unfold ds_W at a; omega
      exact ⟨tb w, (by have e := ii_m (x := xbot w) (by omega); unfold ds_W at a ⊢; omega), (id), (ds_V0 (by decide))⟩)
    (fun z => absurd z (by decide)) (by decide) (by unfold ds_H; omega) (by unfold ds_I; omega) (fun _ => rfl) (by omega) (fun z => by first | rfl | (unfold ds_H at z; omega)) (by decide) (by omega)
  have b1 : mu_B 0 = 9 := rfl
  have b2 : mu_B 1 = 8 := rfl
  simp only [us_id] at k
  exact ⟨mu', by omega, k⟩

theorem xs_pop1 (h : xs_S wc rg m par dn wt mu xtop xbot xslo xph xcu xhe xit xst xsb xpv xjn xbl) (hwc : wc ≤ 4) (hr : 1 ≤ rg ∧ rg ≤ 8) (hm : m ≤ 48) {w : Nat} (hw : w < wc) (hp : xph w = 1) : ∃ mu', mu' < mu ∧ xs_S wc rg m par dn wt mu' xtop (upd xbot w (xsb w)) xslo (upd xph w 2) xcu xhe xit xst xsb xpv xjn xbl := by
  have hp' : dF xph w = 1 := by unfold dF; rw [hp]; decide
  obtain ⟨mu', e, k⟩ := xs_loc h hwc hw hp' (P := 2) (B := xsb w) (S := xsb w) (T := xst w) (V := xpv w) (I := xit w) (p' := 2) (by decide) (by decide)
    (by
      intro vb tb A v
      have a := A w hw
      rw [hp'] at a
      simp only [tI] at a ⊢
      have a2 : -1 ≤ (xbot w).toInt ∧ (xbot w).toInt ≤ 55 ∧ 0 ≤ (xtop w).toInt ∧ (xtop w).toInt ≤ 55 := by unfold ds_W at a; omega
      exact ⟨tb w, (by unfold ds_W at a ⊢; omega), (id), (ds_V0 (by decide))⟩)
    (fun z => absurd z (by decide)) (by decide) (by unfold ds_H; omega) (by unfold ds_I; omega) (fun _ => rfl) (by omega) (fun z => by first | rfl | (unfold ds_H at z; omega)) (by decide) (by omega)
  have b1 : mu_B 1 = 8 := rfl
  have b2 : mu_B 2 = 7 := rfl
  simp only [us_id] at k
  exact ⟨mu', by omega, k⟩

theorem xs_pop2a (h : xs_S wc rg m par dn wt mu xtop xbot xslo xph xcu xhe xit xst xsb xpv xjn xbl) (hwc : wc ≤ 4) (hr : 1 ≤ rg ∧ rg ≤ 8) (hm : m ≤ 48) {w : Nat} (hw : w < wc) (hp : xph w = 2) (hc : xtop w ≤ xsb w) : ∃ mu', mu' < mu ∧ xs_S wc rg m par dn wt mu' xtop xbot xslo (upd xph w 3) xcu xhe (upd xit w (-1)) (upd xst w (xtop w)) xsb xpv xjn xbl := by
  have hp' : dF xph w = 2 := by unfold dF; rw [hp]; decide
  rw [Int32.le_iff_toInt_le] at hc
  obtain ⟨mu', e, k⟩ := xs_loc h hwc hw hp' (P := 3) (B := xbot w) (S := xsb w) (T := xtop w) (V := xpv w) (I := -1) (p' := 3) (by decide) (by decide)
    (by
      intro vb tb A v
      have a := A w hw
      rw [hp'] at a
      simp only [tI] at a ⊢
      have a2 : -1 ≤ (xbot w).toInt ∧ (xbot w).toInt ≤ 55 ∧ 0 ≤ (xtop w).toInt ∧ (xtop w).toInt ≤ 55 := by unfold ds_W at a; omega
      exact ⟨(if (xtop w).toInt < (xsb w).toInt then (xsb w).toInt else (xsb w).toInt + 1), (by split <;> (unfold ds_W at a ⊢; omega)), (fun z => by unfold ds_W at a; split <;> omega), (ds_V0 (by decide))⟩)
    (fun z => absurd z (by decide)) (by decide) (by unfold ds_H; omega) (by unfold ds_I; omega) (fun z => by unfold ds_I at z; omega) (by omega) (fun z => by first | rfl | (unfold ds_H at z; omega)) (by decide) (by omega)
  have b1 : mu_B 2 = 7 := rfl
  have b2 : mu_B 3 = 6 := rfl
  simp only [us_id] at k
  exact ⟨mu', by omega, k⟩

theorem xs_pop2b (h : xs_S wc rg m par dn wt mu xtop xbot xslo xph xcu xhe xit xst xsb xpv xjn xbl) (hwc : wc ≤ 4) (hr : 1 ≤ rg ∧ rg ≤ 8) (hm : m ≤ 48) {w : Nat} (hw : w < wc) (hp : xph w = 2) (hc : ¬ xtop w ≤ xsb w) : ∃ mu', mu' < mu ∧ xs_S wc rg m par dn wt mu' xtop xbot xslo (upd xph w 5) xcu xhe (upd xit w (-1)) (upd xst w (xtop w)) xsb xpv xjn xbl := by
  have hp' : dF xph w = 2 := by unfold dF; rw [hp]; decide
  rw [Int32.le_iff_toInt_le] at hc
  have dm : dN (-1) = 99 := dN_m
  obtain ⟨mu', e, k⟩ := xs_loc h hwc hw hp' (P := 5) (B := xbot w) (S := xsb w) (T := xtop w) (V := xpv w) (I := -1) (p' := 5) (by decide) (by decide)
    (by
      intro vb tb A v
      have a := A w hw
      rw [hp'] at a
      simp only [tI] at a ⊢
      have a2 : -1 ≤ (xbot w).toInt ∧ (xbot w).toInt ≤ 55 ∧ 0 ≤ (xtop w).toInt ∧ (xtop w).toInt ≤ 55 := by unfold ds_W at a; omega
      exact ⟨tb w, (by unfold ds_W at a ⊢; omega), (id), (ds_V0 (by decide))⟩)
    (fun z => absurd z (by decide)) (by decide) (by unfold ds_H; omega) (by unfold ds_I; omega) (fun z => by unfold ds_I at z; omega) (by omega) (fun z => by first | rfl | (unfold ds_H at z; omega)) (by decide) (by omega)
  have b1 : mu_B 2 = 7 := rfl
  have b2 : mu_B 5 = 4 := rfl
  simp only [us_id] at k
  exact ⟨mu', by omega, k⟩

theorem xs_pop3a (h : xs_S wc rg m par dn wt mu xtop xbot xslo xph xcu xhe xit xst xsb xpv xjn xbl) (hwc : wc ≤ 4) (hr : 1 ≤ rg ∧ rg ≤ 8) (hm : m ≤ 48) {w : Nat} (hw : w < wc) (hp : xph w = 3) (hc : xsb w ≤ xst w) : ∃ mu', mu' < mu ∧ xs_S wc rg m par dn wt mu' xtop xbot xslo (upd xph w 4) xcu xhe (upd xit w (xslo (ds_ix rg w (xsb w).toInt))) xst xsb xpv xjn xbl := by
  have hp' : dF xph w = 3 := by unfold dF; rw [hp]; decide
  rw [Int32.le_iff_toInt_le] at hc
  obtain ⟨mu', e, k⟩ := xs_loc h hwc hw hp' (P := 4) (B := xbot w) (S := xsb w) (T := xst w) (V := xpv w) (I := xslo (ds_ix rg w (xsb w).toInt)) (p' := 4) (by decide) (by decide)
    (by
      intro vb tb A v
      have a := A w hw
      rw [hp'] at a
      simp only [tI] at a ⊢
      have a2 : -1 ≤ (xbot w).toInt ∧ (xbot w).toInt ≤ 55 ∧ 0 ≤ (xtop w).toInt ∧ (xtop w).toInt ≤ 55 := by unfold ds_W at a; omega
      exact ⟨tb w, (by unfold ds_W at a ⊢; omega), (id), (ds_V0 (by decide))⟩)
    (fun _ _ => rfl) (by decide) (by unfold ds_H; omega) (by unfold ds_I; omega) (fun z => by unfold ds_I at z; omega) (by omega) (fun z => by first | rfl | (unfold ds_H at z; omega)) (by decide) (by omega)
  have b1 : mu_B 3 = 6 := rfl
  have b2 : mu_B 4 = 5 := rfl
  simp only [us_id] at k
  exact ⟨mu', by omega, k⟩

theorem xs_pop4b (h : xs_S wc rg m par dn wt mu xtop xbot xslo xph xcu xhe xit xst xsb xpv xjn xbl) (hwc : wc ≤ 4) (hr : 1 ≤ rg ∧ rg ≤ 8) (hm : m ≤ 48) {w : Nat} (hw : w < wc) (hp : xph w = 4) (hc : ¬ xtop w = xst w) : ∃ mu', mu' < mu ∧ xs_S wc rg m par dn wt mu' xtop xbot xslo (upd xph w 5) xcu xhe (upd xit w (-1)) xst xsb xpv xjn xbl := by
  have hp' : dF xph w = 4 := by unfold dF; rw [hp]; decide
  rw [← Int32.toInt_inj] at hc
  have dm : dN (-1) = 99 := dN_m
  obtain ⟨mu', e, k⟩ := xs_loc h hwc hw hp' (P := 5) (B := xbot w) (S := xsb w) (T := xst w) (V := xpv w) (I := -1) (p' := 5) (by decide) (by decide)
    (by
      intro vb tb A v
      have a := A w hw
      rw [hp'] at a
      simp only [tI] at a ⊢
      have a2 : -1 ≤ (xbot w).toInt ∧ (xbot w).toInt ≤ 55 ∧ 0 ≤ (xtop w).toInt ∧ (xtop w).toInt ≤ 55 := by unfold ds_W at a; omega
      exact ⟨tb w, (by unfold ds_W at a ⊢; omega), (id), (ds_V0 (by decide))⟩)
    (fun z => absurd z (by decide)) (by decide) (by unfold ds_H; omega) (by unfold ds_I; omega) (fun z => by unfold ds_I at z; omega) (by omega) (fun z => by first | rfl | (unfold ds_H at z; omega)) (by decide) (by omega)
  have b1 : mu_B 4 = 5 := rfl
  have b2 : mu_B 5 = 4 := rfl
  simp only [us_id] at k
  exact ⟨mu', by omega, k⟩

theorem xs_pop5a (h : xs_S wc rg m par dn wt mu xtop xbot xslo xph xcu xhe xit xst xsb xpv xjn xbl) (hwc : wc ≤ 4) (hr : 1 ≤ rg ∧ rg ≤ 8) (hm : m ≤ 48) {w : Nat} (hw : w < wc) (hp : xph w = 5) {q : Int32} (hc : xit w < 0) (hq : dN q < wc) : ∃ mu', mu' < mu ∧ xs_S wc rg m par dn wt mu' xtop (upd xbot w (xsb w + 1)) xslo (upd xph w 6) xcu xhe xit xst xsb (upd xpv w (q)) xjn xbl := by
  have hp' : dF xph w = 5 := by unfold dF; rw [hp]; decide
  have dm : dF xit w = 99 := dN_neg.mpr hc
  obtain ⟨mu', e, k⟩ := xs_loc h hwc hw hp' (P := 6) (B := xsb w + 1) (S := xsb w) (T := xst w) (V := q) (I := xit w) (p' := 6) (by decide) (by decide)
    (by
      intro vb tb A v
      have a := A w hw
      rw [hp'] at a
      simp only [tI] at a ⊢
      have a2 : -1 ≤ (xbot w).toInt ∧ (xbot w).toInt ≤ 55 ∧ 0 ≤ (xtop w).toInt ∧ (xtop w).toInt ≤ 55 := by unfold ds_W at a; omega
      exact ⟨tb w, (by have e := ii_p (x := xsb w) (by unfold ds_W at a; omega); unfold ds_W at a ⊢; omega), (id), (ds_V6 hq)⟩)
    (fun z => absurd z (by decide)) (by decide) (by unfold ds_H; omega) (by rw [dm]; unfold ds_I; omega) (fun _ => rfl) (by omega) (fun z => by first | rfl | (unfold ds_H at z; omega)) (by decide) (by omega)
  have b1 : mu_B 5 = 4 := rfl
  have b2 : mu_B 6 = 3 := rfl
  simp only [us_id] at k
  exact ⟨mu', by omega, k⟩

theorem xs_st6 (h : xs_S wc rg m par dn wt mu xtop xbot xslo xph xcu xhe xit xst xsb xpv xjn xbl) (hwc : wc ≤ 4) (hr : 1 ≤ rg ∧ rg ≤ 8) (hm : m ≤ 48) {w : Nat} (hw : w < wc) (hp : xph w = 6) : ∃ mu', mu' ≤ mu ∧ xs_S wc rg m par dn wt mu' xtop xbot xslo (upd xph w 7) xcu xhe xit (upd xst w (xtop (dN (xpv w)))) xsb xpv xjn xbl := by
  have hp' : dF xph w = 6 := by unfold dF; rw [hp]; decide
  obtain ⟨mu', e, k⟩ := xs_loc h hwc hw hp' (P := 7) (B := xbot w) (S := xsb w) (T := xtop (dN (xpv w))) (V := xpv w) (I := xit w) (p' := 7) (by decide) (by decide)
    (by
      intro vb tb A v
      have a := A w hw
      rw [hp'] at a
      simp only [tI] at a ⊢
      have a2 : -1 ≤ (xbot w).toInt ∧ (xbot w).toInt ≤ 55 ∧ 0 ≤ (xtop w).toInt ∧ (xtop w).toInt ≤ 55 := by unfold ds_W at a; omega
      exact ⟨tb w, (by unfold ds_W at a ⊢; omega), (id), (by
        have pw := v.1 (by omega)
        have av := A (dF xpv w) pw
        unfold ds_V
        refine ⟨fun _ => pw, fun _ => ⟨?_, Int.le_refl _⟩, fun z => by omega, fun z => by omega⟩
        unfold ds_W tI at av
        exact av.2.1)⟩)
    (fun z => absurd z (by decide)) (by decide) (by unfold ds_H; omega) (by unfold ds_I; omega) (fun _ => rfl) (by omega) (fun z => by first | rfl | (unfold ds_H at z; omega)) (by decide) (by omega)
  have b1 : mu_B 6 = 3 := rfl
  have b2 : mu_B 7 = 3 := rfl
  simp only [us_id] at k
  exact ⟨mu', by omega, k⟩

theorem xs_st7b (h : xs_S wc rg m par dn wt mu xtop xbot xslo xph xcu xhe xit xst xsb xpv xjn xbl) (hwc : wc ≤ 4) (hr : 1 ≤ rg ∧ rg ≤ 8) (hm : m ≤ 48) {w : Nat} (hw : w < wc) (hp : xph w = 7) (hc : ¬ xbot (dN (xpv w)) ≤ xst w) : ∃ mu', mu' ≤ mu ∧ xs_S wc rg m par dn wt mu' xtop xbot xslo (upd xph w 8) xcu xhe xit xst xsb xpv xjn xbl := by
  have hp' : dF xph w = 7 := by unfold dF; rw [hp]; decide
  rw [Int32.le_iff_toInt_le] at hc
  obtain ⟨mu', e, k⟩ := xs_loc h hwc hw hp' (P := 8) (B := xbot w) (S := xsb w) (T := xst w) (V := xpv w) (I := xit w) (p' := 8) (by decide) (by decide)
    (by
      intro vb tb A v
      have a := A w hw
      rw [hp'] at a
      simp only [tI] at a ⊢
      have a2 : -1 ≤ (xbot w).toInt ∧ (xbot w).toInt ≤ 55 ∧ 0 ≤ (xtop w).toInt ∧ (xtop w).toInt ≤ 55 := by unfold ds_W at a; omega
      exact ⟨tb w, (by unfold ds_W at a ⊢; omega), (id), (by
        have pw := v.1 (by omega)
        have av := A (dF xpv w) pw
        have v2 := v.2.1 (by omega)
        unfold ds_V
        simp only [fu_id]
        refine ⟨fun _ => pw, fun _ => v2, fun _ z => ?_, fun z => by omega⟩
        unfold dF at av
        simp only [tI] at av
        have : (xst w).toInt = (xtop (dN (xpv w))).toInt := z
        show (xst w).toInt < tb (dN (xpv w))
        unfold ds_W at av
        omega)⟩)
    (fun z => absurd z (by decide)) (by decide) (by unfold ds_H; omega) (by unfold ds_I; omega) (fun _ => rfl) (by omega) (fun z => by first | rfl | (unfold ds_H at z; omega)) (by decide) (by omega)
  have b1 : mu_B 7 = 3 := rfl
  have b2 : mu_B 8 = 3 := rfl
  simp only [us_id] at k
  exact ⟨mu', by omega, k⟩

theorem xs_st8 (h : xs_S wc rg m par dn wt mu xtop xbot xslo xph xcu xhe xit xst xsb xpv xjn xbl) (hwc : wc ≤ 4) (hr : 1 ≤ rg ∧ rg ≤ 8) (hm : m ≤ 48) {w : Nat} (hw : w < wc) (hp : xph w = 8) : ∃ mu', mu' ≤ mu ∧ xs_S wc rg m par dn wt mu' xtop xbot xslo (upd xph w 9) xcu xhe (upd xit w (xslo (ds_ix rg (dN (xpv w)) (xst w).toInt))) xst xsb xpv xjn xbl := by
  have hp' : dF xph w = 8 := by unfold dF; rw [hp]; decide
  obtain ⟨mu', e, k⟩ := xs_loc h hwc hw hp' (P := 9) (B := xbot w) (S := xsb w) (T := xst w) (V := xpv w) (I := xslo (ds_ix rg (dN (xpv w)) (xst w).toInt)) (p' := 9) (by decide) (by decide)
    (by
      intro vb tb A v
      have a := A w hw
      rw [hp'] at a
      simp only [tI] at a ⊢
      have a2 : -1 ≤ (xbot w).toInt ∧ (xbot w).toInt ≤ 55 ∧ 0 ≤ (xtop w).toInt ∧ (xtop w).toInt ≤ 55 := by unfold ds_W at a; omega
      exact ⟨tb w, (by unfold ds_W at a ⊢; omega), (id), (by
        unfold ds_V at v ⊢
        simp only [fu_id]
        exact ⟨fun _ => v.1 (by omega), fun _ => v.2.1 (by omega), fun _ => v.2.2.1 (by omega), fun _ _ => rfl⟩)⟩)
    (fun z => absurd z (by decide)) (by decide) (by unfold ds_H; omega) (by unfold ds_I; omega) (fun z => by unfold ds_I at z; omega) (by omega) (fun z => by first | rfl | (unfold ds_H at z; omega)) (by decide) (by omega)
  have b1 : mu_B 8 = 3 := rfl
  have b2 : mu_B 9 = 3 := rfl
  simp only [us_id] at k
  exact ⟨mu', by omega, k⟩

theorem xs_nx7 (h : xs_S wc rg m par dn wt mu xtop xbot xslo xph xcu xhe xit xst xsb xpv xjn xbl) (hwc : wc ≤ 4) (hr : 1 ≤ rg ∧ rg ≤ 8) (hm : m ≤ 48) {w : Nat} (hw : w < wc) (hp : xph w = 7) {q : Int32} (hq : dN q < wc) : ∃ mu', mu' ≤ mu ∧ xs_S wc rg m par dn wt mu' xtop xbot xslo (upd xph w 6) xcu xhe xit xst xsb (upd xpv w (q)) xjn xbl := by
  have hp' : dF xph w = 7 := by unfold dF; rw [hp]; decide
  obtain ⟨mu', e, k⟩ := xs_loc h hwc hw hp' (P := 6) (B := xbot w) (S := xsb w) (T := xst w) (V := q) (I := xit w) (p' := 6) (by decide) (by decide)
    (by
      intro vb tb A v
      have a := A w hw
      rw [hp'] at a
      simp only [tI] at a ⊢
      have a2 : -1 ≤ (xbot w).toInt ∧ (xbot w).toInt ≤ 55 ∧ 0 ≤ (xtop w).toInt ∧ (xtop w).toInt ≤ 55 := by unfold ds_W at a; omega
      exact ⟨tb w, (by unfold ds_W at a ⊢; omega), (id), (ds_V6 hq)⟩)
    (fun z => absurd z (by decide)) (by decide) (by unfold ds_H; omega) (by unfold ds_I; omega) (fun _ => rfl) (by omega) (fun z => by first | rfl | (unfold ds_H at z; omega)) (by decide) (by omega)
  have b1 : mu_B 7 = 3 := rfl
  have b2 : mu_B 6 = 3 := rfl
  simp only [us_id] at k
  exact ⟨mu', by omega, k⟩

theorem xs_nx9 (h : xs_S wc rg m par dn wt mu xtop xbot xslo xph xcu xhe xit xst xsb xpv xjn xbl) (hwc : wc ≤ 4) (hr : 1 ≤ rg ∧ rg ≤ 8) (hm : m ≤ 48) {w : Nat} (hw : w < wc) (hp : xph w = 9) {q : Int32} (hq : dN q < wc) : ∃ mu', mu' ≤ mu ∧ xs_S wc rg m par dn wt mu' xtop xbot xslo (upd xph w 6) xcu xhe xit xst xsb (upd xpv w (q)) xjn xbl := by
  have hp' : dF xph w = 9 := by unfold dF; rw [hp]; decide
  obtain ⟨mu', e, k⟩ := xs_loc h hwc hw hp' (P := 6) (B := xbot w) (S := xsb w) (T := xst w) (V := q) (I := xit w) (p' := 6) (by decide) (by decide)
    (by
      intro vb tb A v
      have a := A w hw
      rw [hp'] at a
      simp only [tI] at a ⊢
      have a2 : -1 ≤ (xbot w).toInt ∧ (xbot w).toInt ≤ 55 ∧ 0 ≤ (xtop w).toInt ∧ (xtop w).toInt ≤ 55 := by unfold ds_W at a; omega
      exact ⟨tb w, (by unfold ds_W at a ⊢; omega), (id), (ds_V6 hq)⟩)
    (fun z => absurd z (by decide)) (by decide) (by unfold ds_H; omega) (by unfold ds_I; omega) (fun _ => rfl) (by omega) (fun z => by first | rfl | (unfold ds_H at z; omega)) (by decide) (by omega)
  have b1 : mu_B 9 = 3 := rfl
  have b2 : mu_B 6 = 3 := rfl
  simp only [us_id] at k
  exact ⟨mu', by omega, k⟩

theorem xs_pu10 (h : xs_S wc rg m par dn wt mu xtop xbot xslo xph xcu xhe xit xst xsb xpv xjn xbl) (hwc : wc ≤ 4) (hr : 1 ≤ rg ∧ rg ≤ 8) (hm : m ≤ 48) {w : Nat} (hw : w < wc) (hp : xph w = 10) : ∃ mu', mu' < mu ∧ xs_S wc rg m par dn wt mu' xtop xbot xslo (upd xph w 11) xcu xhe xit xst (upd xsb w (xbot w)) xpv xjn xbl := by
  have hp' : dF xph w = 10 := by unfold dF; rw [hp]; decide
  obtain ⟨mu', e, k⟩ := xs_loc h hwc hw hp' (P := 11) (B := xbot w) (S := xbot w) (T := xst w) (V := xpv w) (I := xit w) (p' := 11) (by decide) (by decide)
    (by
      intro vb tb A v
      have a := A w hw
      rw [hp'] at a
      simp only [tI] at a ⊢
      have a2 : -1 ≤ (xbot w).toInt ∧ (xbot w).toInt ≤ 55 ∧ 0 ≤ (xtop w).toInt ∧ (xtop w).toInt ≤ 55 := by unfold ds_W at a; omega
      exact ⟨tb w, (by unfold ds_W at a ⊢; omega), (id), (ds_V0 (by decide))⟩)
    (fun z => absurd z (by decide)) (by decide) (by unfold ds_H; omega) (by unfold ds_I; omega) (fun _ => rfl) (by omega) (fun z => by first | rfl | (unfold ds_H at z; omega)) (by decide) (by omega)
  have b1 : mu_B 10 = 6 := rfl
  have b2 : mu_B 11 = 5 := rfl
  simp only [us_id] at k
  exact ⟨mu', by omega, k⟩

theorem xs_pu11a (h : xs_S wc rg m par dn wt mu xtop xbot xslo xph xcu xhe xit xst xsb xpv xjn xbl) (hwc : wc ≤ 4) (hr : 1 ≤ rg ∧ rg ≤ 8) (hm : m ≤ 48) {w : Nat} (hw : w < wc) (hp : xph w = 11) (hc : (xsb w).toInt - (xtop w).toInt < rg) : ∃ mu', mu' < mu ∧ xs_S wc rg m par dn wt mu' xtop xbot xslo (upd xph w 12) xcu xhe xit (upd xst w (xtop w)) xsb xpv xjn xbl := by
  have hp' : dF xph w = 11 := by unfold dF; rw [hp]; decide
  obtain ⟨mu', e, k⟩ := xs_loc h hwc hw hp' (P := 12) (B := xbot w) (S := xsb w) (T := xtop w) (V := xpv w) (I := xit w) (p' := 12) (by decide) (by decide)
    (by
      intro vb tb A v
      have a := A w hw
      rw [hp'] at a
      simp only [tI] at a ⊢
      have a2 : -1 ≤ (xbot w).toInt ∧ (xbot w).toInt ≤ 55 ∧ 0 ≤ (xtop w).toInt ∧ (xtop w).toInt ≤ 55 := by unfold ds_W at a; omega
      exact ⟨tb w, (by unfold ds_W at a ⊢; omega), (id), (ds_V0 (by decide))⟩)
    (fun z => absurd z (by decide)) (by decide) (by unfold ds_H; omega) (by unfold ds_I; omega) (fun _ => rfl) (by omega) (fun z => by first | rfl | (unfold ds_H at z; omega)) (by decide) (by omega)
  have b1 : mu_B 11 = 5 := rfl
  have b2 : mu_B 12 = 4 := rfl
  simp only [us_id] at k
  exact ⟨mu', by omega, k⟩

end
end
section
/-! join counters and ends, the moves of tasks in hand -/
section
variable {wc m : Nat} {ph cu it par : Nat → Nat} {jn : Nat → Int} {lo : Nat → Nat} {dn wt dn' wt' : Nat → Prop}
theorem jk_jn (h : jk_J wc m ph cu it par jn lo) {w p' y : Nat} (hw : w < wc) (ey : cu w = y) (hcu : ∀ v, v < wc → v ≠ w → ds_H (ph v) → cu v ≠ y) (hlo : 2 ≤ lo y ∧ lo y < 20) {jv : Int} (e : jv = jk_q p' + jk_K m par lo y) (h17 : 17 ≤ p' ∧ p' ≤ 19 → jk_K m par lo y = 0) (h15 : p' ≠ 15) : jk_J wc m (fu ph w p') cu it par (fu jn y jv) lo := by
  obtain ⟨J1, J2, J3, J4, J5, J6, J7⟩ := h
  refine ⟨?_, ?_, ?_, J4, J5, ?_, ?_⟩
  · intro v hv
    by_cases q : v = w
    · subst q; rw [ey, fu_s, fu_s]; intro _; exact e
    · rw [fu_n q]; intro r; rw [fu_n (hcu v hv q r)]; exact J1 v hv r
  · intro t ht r
    rw [fu_n (by intro z; subst z; omega)]; exact J2 t ht r
  · intro t ht r
    rw [fu_n (by intro z; subst z; omega)]; exact J3 t ht r
  · intro v hv
    by_cases q : v = w
    · subst q; rw [ey, fu_s]; exact h17
    · rw [fu_n q]; exact J6 v hv
  · intro v hv
    by_cases q : v = w
    · subst q; rw [fu_s]; intro r; exact absurd r h15
    · rw [fu_n q]; exact J7 v hv
/-- the task in hand waits -/
theorem jk_wait (h : jk_J wc m ph cu it par jn lo) {w y : Nat} (hw : w < wc) (ey : cu w = y) (hy : y < m) (hcu : ∀ v, v < wc → v ≠ w → ds_H (ph v) → cu v ≠ y) (hlo : 2 ≤ lo y ∧ lo y < 20) {jv : Int} (e : jv = jk_K m par lo y) (hk : 0 < jk_K m par lo y) : jk_J wc m (fu ph w 20) cu it par (fu jn y jv) (fu lo y 1) := by
  obtain ⟨J1, J2, J3, J4, J5, J6, J7⟩ := h
  have K : ∀ t, jk_K m par (fu lo y 1) t = jk_K m par lo t := by
    intro t
    refine jk_same (fun c hc2 => ?_)
    by_cases q : c = y
    · subst q; rw [fu_s]; omega
    · rw [fu_n q]
  refine ⟨?_, ?_, ?_, ?_, ?_, ?_, ?_⟩
  · intro v hv
    by_cases q : v = w
    · subst q; rw [fu_s]; intro r; unfold ds_H at r; omega
    · rw [fu_n q]; intro r; rw [fu_n (hcu v hv q r), K]; exact J1 v hv r
  · intro t ht r
    rw [K]
    by_cases q : t = y
    · subst q; rw [fu_s]; exact e
    · rw [fu_n q] at r ⊢; exact J2 t ht r
  · intro t ht r
    rw [K]
    have q : t ≠ y := by intro z; subst z; rw [fu_s] at r; omega
    rw [fu_n q] at r ⊢; exact J3 t ht r
  · intro t ht r
    rw [K]
    by_cases q : t = y
    · subst q; exact hk
    · rw [fu_n q] at r; exact J4 t ht r
  · intro t ht r
    rw [K]
    have q : t ≠ y := by intro z; subst z; rw [fu_s] at r; omega
    rw [fu_n q] at r; exact J5 t ht r
  · intro v hv
    rw [K]
    by_cases q : v = w
    · subst q; rw [fu_s]; intro r; omega
    · rw [fu_n q]; exact J6 v hv
  · intro v hv
    by_cases q : v = w
    · subst q; rw [fu_s]; intro r; omega
    · rw [fu_n q]; exact J7 v hv
/-- the task in hand has ended and tells its parent -/
theorem jk_tell (h : jk_J wc m ph cu it par jn lo) {w y p : Nat} (hw : w < wc) (hp : ph w = 19) (ey : cu w = y) (hy : y < m) (h0 : 0 < y) (ep : par y = p) (hpy : p < y) (hlo : 2 ≤ lo y ∧ lo y < 20) {jv : Int} (e : jv = jn p - 1) (hj : jv ≠ 0) : jk_J wc m (fu ph w 20) cu it par (fu jn p jv) (fu lo y 0) := by
  obtain ⟨J1, J2, J3, J4, J5, J6, J7⟩ := h
  have K1 : jk_K m par (fu lo y 0) p + 1 = jk_K m par lo p := by rw [← ep]; exact jk_end hy h0 (by omega)
  have K2 : ∀ t, t ≠ p → jk_K m par (fu lo y 0) t = jk_K m par lo t := fun t q => jk_end2 hy (by rw [ep]; exact q)
  have ky := J6 w hw (by omega)
  have jy := J1 w hw (by unfold ds_H; omega)
  rw [ey] at ky jy
  rw [hp, show jk_q 19 = 0 from rfl] at jy
  refine ⟨?_, ?_, ?_, ?_, ?_, ?_, ?_⟩
  · intro v hv
    by_cases q : v = w
    · subst q; rw [fu_s]; intro r; unfold ds_H at r; omega
    · rw [fu_n q]; intro r
      have j1 := J1 v hv r
      by_cases z : cu v = p
      · rw [z] at j1 ⊢; rw [fu_s]; omega
      · rw [fu_n z, K2 _ z]; exact j1
  · intro t ht r
    by_cases q : t = y
    · subst q; rw [fu_n (by omega), K2 t (by omega)]; omega
    · rw [fu_n q] at r
      have j2 := J2 t ht r
      by_cases z : t = p
      · rw [z] at j2 ⊢; rw [fu_s]; omega
      · rw [fu_n z, K2 _ z]; exact j2
  · intro t ht r
    have q : t ≠ y := by intro z; subst z; rw [fu_s] at r; omega
    rw [fu_n q] at r
    have j2 := J3 t ht r
    by_cases z : t = p
    · rw [z] at j2 ⊢; rw [fu_s]; omega
    · rw [fu_n z, K2 _ z]; exact j2
  · intro t ht r
    have q : t ≠ y := by intro z; subst z; rw [fu_s] at r; omega
    rw [fu_n q] at r
    by_cases z : t = p
    · have j2 := J2 t ht (by omega)
      rw [z] at j2 ⊢; omega
    · rw [K2 _ z]; exact J4 t ht r
  · intro t ht r
    by_cases q : t = y
    · subst q; rw [K2 t (by omega)]; exact ky
    · rw [fu_n q] at r
      have j2 := J5 t ht r
      by_cases z : t = p
      · rw [z] at j2; omega
      · rw [K2 _ z]; exact j2
  · intro v hv
    by_cases q : v = w
    · subst q; rw [fu_s]; intro r; omega
    · rw [fu_n q]; intro r
      have j1 := J6 v hv r
      by_cases z : cu v = p
      · rw [z] at j1; omega
      · rw [K2 _ z]; exact j1
  · intro v hv
    by_cases q : v = w
    · subst q; rw [fu_s]; intro r; omega
    · rw [fu_n q]; exact J7 v hv
/-- and wakes it -/
theorem jk_wake (h : jk_J wc m ph cu it par jn lo) (hwc : wc ≤ 4) {w y p : Nat} (hw : w < wc) (hp : ph w = 19) (ey : cu w = y) (hy : y < m) (h0 : 0 < y) (ep : par y = p) (hpy : p < y) (hlo : 2 ≤ lo y ∧ lo y < 20) (hlp : lo p = 1) (hcu : ∀ v, v < wc → v ≠ w → ds_H (ph v) → cu v ≠ p) {jv : Int} (e : jv = jn p - 1) (hj : jv = 0) : jk_J wc m (fu ph w 17) (fu cu w p) it par (fu jn p jv) (fu (fu lo y 0) p (10 + w)) := by
  obtain ⟨J1, J2, J3, J4, J5, J6, J7⟩ := h
  have K1 : jk_K m par (fu lo y 0) p + 1 = jk_K m par lo p := by rw [← ep]; exact jk_end hy h0 (by omega)
  have K2 : ∀ t, t ≠ p → jk_K m par (fu lo y 0) t = jk_K m par lo t := fun t q => jk_end2 hy (by rw [ep]; exact q)
  have K : ∀ t, jk_K m par (fu (fu lo y 0) p (10 + w)) t = jk_K m par (fu lo y 0) t := by
    intro t
    refine jk_same (fun c hc2 => ?_)
    by_cases q : c = p
    · subst q; rw [fu_s, fu_n (by omega)]; omega
    · rw [fu_n q]
  have ky := J6 w hw (by omega)
  have jy := J1 w hw (by unfold ds_H; omega)
  have jp := J2 p (by omega) (by omega)
  rw [ey] at ky jy
  rw [hp, show jk_q 19 = 0 from rfl] at jy
  refine ⟨?_, ?_, ?_, ?_, ?_, ?_, ?_⟩
  · intro v hv
    rw [K]
    by_cases q : v = w
    · subst q; rw [fu_s, fu_s, fu_s]; intro r
      rw [show jk_q 17 = 0 from rfl]; omega
    · rw [fu_n q, fu_n q]; intro r
      have z := hcu v hv q r
      rw [fu_n z, K2 _ z]; exact J1 v hv r
  · intro t ht r
    rw [K]
    have z : t ≠ p := by intro z; subst z; rw [fu_s] at r; omega
    rw [fu_n z] at r
    rw [fu_n z, K2 _ z]
    by_cases q : t = y
    · subst q; omega
    · rw [fu_n q] at r; exact J2 t ht r
  · intro t ht r
    rw [K]
    have z : t ≠ p := by intro z; subst z; rw [fu_s] at r; omega
    rw [fu_n z] at r
    have q : t ≠ y := by intro z; subst z; rw [fu_s] at r; omega
    rw [fu_n q] at r
    rw [fu_n z, K2 _ z]; exact J3 t ht r
  · intro t ht r
    rw [K]
    have z : t ≠ p := by intro z; subst z; rw [fu_s] at r; omega
    rw [fu_n z] at r
    have q : t ≠ y := by intro z; subst z; rw [fu_s] at r; omega
    rw [fu_n q] at r
    rw [K2 _ z]; exact J4 t ht r
  · intro t ht r
    rw [K]
    have z : t ≠ p := by intro z; subst z; rw [fu_s] at r; omega
    rw [fu_n z] at r
    rw [K2 _ z]
    by_cases q : t = y
    · subst q; exact ky
    · rw [fu_n q] at r; exact J5 t ht r
  · intro v hv
    rw [K]
    by_cases q : v = w
    · subst q; rw [fu_s, fu_s]; intro r; omega
    · rw [fu_n q, fu_n q]; intro r
      have z := hcu v hv q (by unfold ds_H; omega)
      rw [K2 _ z]; exact J6 v hv r
  · intro v hv
    by_cases q : v = w
    · subst q; rw [fu_s]; intro r; omega
    · rw [fu_n q, fu_n q]; exact J7 v hv
/-- a child is made -/
theorem jk_spawn (h : jk_J wc m ph cu it par jn lo) {w y : Nat} (hw : w < wc) (hp : ph w = 14) (ey : cu w = y) (hm : 0 < m) (hy : y < m) (hcm : ∀ v, v < wc → ds_H (ph v) → cu v < m) (him : ∀ v, v < wc → ph v = 15 → it v < m) (hpm : ∀ t, 0 < t → t < m → par t < m) (hcu : ∀ v, v < wc → v ≠ w → ds_H (ph v) → cu v ≠ y) (hlo : 2 ≤ lo y ∧ lo y < 20) : jk_J wc (m + 1) (fu ph w 15) cu (fu it w m) (fu par m y) (fu jn m 1) (fu lo m (20 + w)) := by
  obtain ⟨J1, J2, J3, J4, J5, J6, J7⟩ := h
  have K : ∀ t, jk_K (m + 1) (fu par m y) (fu lo m (20 + w)) t = jk_K m par lo t + (if t = y then 1 else 0) := fun t => jk_new hm (by omega)
  have Km : jk_K m par lo m = 0 := by
    refine Nat.eq_zero_of_not_pos (fun z => ?_)
    obtain ⟨c, c1, c2, c3, c4⟩ := jk_pos z
    have := hpm c c2 c1
    omega
  refine ⟨?_, ?_, ?_, ?_, ?_, ?_, ?_⟩
  · intro v hv
    rw [K]
    by_cases q : v = w
    · subst q; rw [fu_s, ey, fu_n (by omega), if_pos rfl]; intro r
      have j1 := J1 v hv (by unfold ds_H; omega)
      rw [hp, ey, show jk_q 14 = 1 from rfl] at j1
      rw [show jk_q 15 = 0 from rfl]; omega
    · rw [fu_n q]; intro r
      have := hcm v hv r
      rw [fu_n (by omega), if_neg (hcu v hv q r)]; exact J1 v hv r
  · intro t ht r
    have q : t ≠ m := by intro z; subst z; rw [fu_s] at r; omega
    rw [fu_n q] at r
    have q2 : t ≠ y := by intro z; subst z; omega
    rw [K, fu_n q, if_neg q2]; exact J2 t (by omega) r
  · intro t ht r
    rw [K]
    by_cases q : t = m
    · subst q; rw [fu_s, if_neg (by omega), Km]; rfl
    · rw [fu_n q] at r ⊢
      have q2 : t ≠ y := by intro z; subst z; omega
      rw [if_neg q2]; exact J3 t (by omega) r
  · intro t ht r
    have q : t ≠ m := by intro z; subst z; rw [fu_s] at r; omega
    rw [fu_n q] at r
    have := J4 t (by omega) r
    rw [K]; omega
  · intro t ht r
    have q : t ≠ m := by intro z; subst z; rw [fu_s] at r; omega
    rw [fu_n q] at r
    have q2 : t ≠ y := by intro z; subst z; omega
    rw [K, if_neg q2]; exact J5 t (by omega) r
  · intro v hv
    rw [K]
    by_cases q : v = w
    · subst q; rw [fu_s]; intro r; omega
    · rw [fu_n q]; intro r
      rw [if_neg (hcu v hv q (by unfold ds_H; omega))]; exact J6 v hv r
  · intro v hv
    by_cases q : v = w
    · subst q; rw [fu_s, fu_s, fu_s, ey]; intro _; exact ⟨rfl, hm⟩
    · rw [fu_n q, fu_n q]; intro r
      have := him v hv r
      rw [fu_n (by omega)]; exact J7 v hv r
/-- the table changes at the task in hand, and so does the phase -/
theorem ei_tab (h : ei_E wc m ph cu lo dn wt) {w p' y : Nat} (hw : w < wc) (ey : cu w = y) (hlo : 2 ≤ lo y ∧ lo y < 20) (hcu : ∀ v, v < wc → v ≠ w → ds_H (ph v) → cu v ≠ y) (hd : ∀ t, t ≠ y → (dn' t ↔ dn t)) (hwt : ∀ t, t ≠ y → (wt' t ↔ wt t)) (h19 : p' = 19 → dn' y ∧ 0 < y) (h18 : 10 ≤ p' ∧ p' ≤ 18 → ¬ dn' y) (h16 : p' = 16 ∨ p' = 17 → wt' y) : ei_E wc m (fu ph w p') cu lo dn' wt' := by
  obtain ⟨E0, E1, E2, E3, E4, W1, W2⟩ := h
  refine ⟨E0, ?_, ?_, ?_, ?_, ?_, ?_⟩
  · intro t ht r; exact (hd t (by intro z; subst z; omega)).mpr (E1 t ht r)
  · intro v hv
    by_cases q : v = w
    · subst q; rw [fu_s, ey]; exact h19
    · rw [fu_n q]; intro r
      rw [hd _ (hcu v hv q (by unfold ds_H; omega))]; exact E2 v hv r
  · intro v hv
    by_cases q : v = w
    · subst q; rw [fu_s, ey]; exact h18
    · rw [fu_n q]; intro r
      rw [hd _ (hcu v hv q (by unfold ds_H; omega))]; exact E3 v hv r
  · intro t ht r
    rw [hd t (by intro z; subst z; omega)]; exact E4 t ht r
  · intro v hv
    by_cases q : v = w
    · subst q; rw [fu_s, ey]; exact h16
    · rw [fu_n q]; intro r
      rw [hwt _ (hcu v hv q (by unfold ds_H; omega))]; exact W1 v hv r
  · intro t ht r
    rw [hwt t (by intro z; subst z; omega)]; exact W2 t ht r
/-- the task in hand leaves it: it waits (c = 1) or is through (c = 0) -/
theorem ei_rel (h : ei_E wc m ph cu lo dn wt) {w y c : Nat} (hw : w < wc) (hc : c ≤ 1) (h0 : c = 0 → 0 < y ∧ dn y) (h1 : c = 1 → ¬ dn y ∧ wt y) : ei_E wc m (fu ph w 20) cu (fu lo y c) dn wt := by
  obtain ⟨E0, E1, E2, E3, E4, W1, W2⟩ := h
  refine ⟨?_, ?_, ?_, ?_, ?_, ?_, ?_⟩
  · by_cases q : 0 = y
    · subst q; rw [fu_s]; intro z; have := (h0 z).1; omega
    · rw [fu_n q]; exact E0
  · intro t ht r
    by_cases q : t = y
    · subst q; rw [fu_s] at r; exact (h0 r).2
    · rw [fu_n q] at r; exact E1 t ht r
  · intro v hv
    by_cases q : v = w
    · subst q; rw [fu_s]; intro r; omega
    · rw [fu_n q]; exact E2 v hv
  · intro v hv
    by_cases q : v = w
    · subst q; rw [fu_s]; intro r; omega
    · rw [fu_n q]; exact E3 v hv
  · intro t ht r
    by_cases q : t = y
    · subst q; rw [fu_s] at r; exact (h1 (by omega)).1
    · rw [fu_n q] at r; exact E4 t ht r
  · intro v hv
    by_cases q : v = w
    · subst q; rw [fu_s]; intro r; omega
    · rw [fu_n q]; exact W1 v hv
  · intro t ht r
    by_cases q : t = y
    · subst q; rw [fu_s] at r; exact (h1 r).2
    · rw [fu_n q] at r; exact W2 t ht r
theorem ei_wake (h : ei_E wc m ph cu lo dn wt) {w p : Nat} (hw : w < wc) (hpm : p < m) (hl : lo p = 1) : ei_E wc m (fu ph w 17) (fu cu w p) (fu lo p (10 + w)) dn wt := by
  obtain ⟨E0, E1, E2, E3, E4, W1, W2⟩ := h
  refine ⟨?_, ?_, ?_, ?_, ?_, ?_, ?_⟩
  · by_cases q : 0 = p
    · subst q; rw [fu_s]; omega
    · rw [fu_n q]; exact E0
  · intro t ht r
    have q : t ≠ p := by intro z; subst z; rw [fu_s] at r; omega
    rw [fu_n q] at r; exact E1 t ht r
  · intro v hv
    by_cases q : v = w
    · subst q; rw [fu_s]; intro r; omega
    · rw [fu_n q, fu_n q]; exact E2 v hv
  · intro v hv
    by_cases q : v = w
    · subst q; rw [fu_s, fu_s]; intro r; exact E4 p hpm (Or.inl hl)
    · rw [fu_n q, fu_n q]; exact E3 v hv
  · intro t ht r
    by_cases q : t = p
    · subst q; exact E4 t ht (Or.inl hl)
    · rw [fu_n q] at r; exact E4 t ht r
  · intro v hv
    by_cases q : v = w
    · subst q; rw [fu_s, fu_s]; intro r; exact W2 p hpm hl
    · rw [fu_n q, fu_n q]; exact W1 v hv
  · intro t ht r
    have q : t ≠ p := by intro z; subst z; rw [fu_s] at r; omega
    rw [fu_n q] at r; exact W2 t ht r
/-- one more task, not ended, its making task not ended either -/
theorem ei_new (h : ei_E wc m ph cu lo dn wt) {w y : Nat} (hw : w < wc) (hm : 0 < m) (hp : ph w = 14) (ey : cu w = y) (hy : y < m) (hcm : ∀ v, v < wc → ds_H (ph v) → cu v < m) (hlo : 2 ≤ lo y ∧ lo y < 20) (hcu : ∀ v, v < wc → v ≠ w → ds_H (ph v) → cu v ≠ y) (hd : ∀ t, t < m → t ≠ y → (dn' t ↔ dn t)) (hwt : ∀ t, t < m → t ≠ y → (wt' t ↔ wt t)) (hdm : ¬ dn' m) (hdy : ¬ dn' y) : ei_E wc (m + 1) (fu ph w 15) cu (fu lo m (20 + w)) dn' wt' := by
  obtain ⟨E0, E1, E2, E3, E4, W1, W2⟩ := h
  refine ⟨?_, ?_, ?_, ?_, ?_, ?_, ?_⟩
  · rw [fu_n (by omega)]; exact E0
  · intro t ht r
    have q : t ≠ m := by intro z; subst z; rw [fu_s] at r; omega
    rw [fu_n q] at r
    exact (hd t (by omega) (by intro z; subst z; omega)).mpr (E1 t (by omega) r)
  · intro v hv
    by_cases q : v = w
    · subst q; rw [fu_s]; intro r; omega
    · rw [fu_n q]; intro r
      have a : ds_H (ph v) := by unfold ds_H; omega
      rw [hd _ (hcm v hv a) (hcu v hv q a)]; exact E2 v hv r
  · intro v hv
    by_cases q : v = w
    · subst q; rw [ey]; intro _; exact hdy
    · rw [fu_n q]; intro r
      have a : ds_H (ph v) := by unfold ds_H; omega
      rw [hd _ (hcm v hv a) (hcu v hv q a)]; exact E3 v hv r
  · intro t ht r
    by_cases q : t = m
    · subst q; exact hdm
    · rw [fu_n q] at r
      rw [hd t (by omega) (by intro z; subst z; omega)]; exact E4 t (by omega) r
  · intro v hv
    by_cases q : v = w
    · subst q; rw [fu_s]; intro r; omega
    · rw [fu_n q]; intro r
      have a : ds_H (ph v) := by unfold ds_H; omega
      rw [hwt _ (hcm v hv a) (hcu v hv q a)]; exact W1 v hv r
  · intro t ht r
    have q : t ≠ m := by intro z; subst z; rw [fu_s] at r; omega
    rw [fu_n q] at r
    rw [hwt t (by omega) (by intro z; subst z; omega)]; exact W2 t (by omega) r
end
end
section
/-! turns that move a task -/
section
variable {wc rg m : Nat} {par : Nat → Nat} {dn wt dn' wt' : Nat → Prop} {mu : Nat} {xtop xbot xslo xph xcu xhe xit xst xsb xpv xjn xbl : Nat → Int32}
theorem us_us {f : Nat → Int32} {k : Nat} {x y : Int32} : upd (upd f k x) k y = upd f k y := fu_fu
theorem dp_n (n : Nat) (x : Int32) (h : dN x = n) {w : Nat} (hp : xph w = x) : dF xph w = n := by unfold dF; rw [hp]; exact h
theorem mu_mv {ph lo : Nat → Nat} {w x b p' : Nat} (hw : w < 4) (hx : x < m) (h1 : 2 ≤ lo x) (h2 : 2 ≤ b) : mu_M m (fu ph w p') (fu lo x b) + mu_B (ph w) = mu_M m ph lo + mu_B p' := by
  have a := mu_ph (m := m) (ph := ph) (lo := fu lo x b) (w := w) (p' := p') hw
  have b1 := mu_lo (m := m) (ph := ph) (lo := lo) (x := x) (b := b) hx
  have e1 : mu_L (lo x) = 16 := if_neg (by omega)
  have e2 : mu_L b = 16 := if_neg (by omega)
  omega
theorem ph_ok {ph : Nat → Nat} {w p' : Nat} (h : ∀ v, v < wc → ph v ≤ 19) (hp : p' ≤ 19) : ∀ v, v < wc → fu ph w p' v ≤ 19 := by
  intro v hv
  by_cases q : v = w
  · subst q; rw [fu_s]; exact hp
  · rw [fu_n q]; exact h v hv
theorem ds_cu {ph cu lo : Nat → Nat} (C1 : ∀ w, w < wc → ds_H (ph w) → cu w < m ∧ lo (cu w) = 10 + w) {w : Nat} (hw : w < wc) (hh : ds_H (ph w)) : ∀ v, v < wc → v ≠ w → ds_H (ph v) → cu v ≠ cu w := by
  intro v hv q r e
  have a := (C1 v hv r).2
  have b := (C1 w hw hh).2
  rw [e] at a; omega
theorem dn14 : dN 14 = 14 := by decide
theorem dn13 : dN 13 = 13 := by decide
theorem dn10 : dN 10 = 10 := by decide
theorem dn17 : dN 17 = 17 := by decide
theorem dn16 : dN 16 = 16 := by decide
theorem dn15 : dN 15 = 15 := by decide
theorem dn18 : dN 18 = 18 := by decide
theorem dn19 : dN 19 = 19 := by decide
theorem dn5 : dN 5 = 5 := by decide
theorem dn0 : dN 0 = 0 := by decide
theorem ds_H14 : ds_H 14 := by unfold ds_H; omega
theorem xs_pop3b (h : xs_S wc rg m par dn wt mu xtop xbot xslo xph xcu xhe xit xst xsb xpv xjn xbl) (hwc : wc ≤ 4) (hm : m ≤ 48) {w : Nat} (hw : w < wc) (hp : xph w = 3) (hc : ¬ xsb w ≤ xst w) : ∃ mu', mu' < mu ∧ xs_S wc rg m par dn wt mu' xtop xbot xslo (upd xph w 14) (upd xcu w (xslo (ds_ix rg w (xsb w).toInt))) xhe (upd xit w (-1)) xst xsb xpv xjn xbl := by
  obtain ⟨vb, tb, hn, lo, D, J, E, M, Pm⟩ := h
  have hp' := dp_n 3 3 (by decide) hp
  rw [Int32.le_iff_toInt_le] at hc
  have hs : tI xst w < tI xsb w := by unfold tI; omega
  have a := D.1 w hw
  rw [hp'] at a
  have a2 : 0 ≤ tI xtop w ∧ tI xtop w ≤ tI xsb w ∧ vb w = tI xsb w + 1 := by unfold ds_W at a; omega
  have D2 := ds_take (ds_popb D hwc hm hw hp' hs) hwc hm hw fu_s
  obtain ⟨x1, x2⟩ := D.2.2.2.1 w (tI xsb w) hw (by omega) (by omega)
  have J' := jk_mv J hw (b := 10 + w) (p' := 14) (it' := 99) (by omega) (J.2.2.1 _ x1 (by omega)) x1 (Or.inr ⟨rfl, ds_H14, rfl⟩) (fun _ => Or.inr ⟨rfl, rfl⟩) (by decide) (by decide)
  have E' := ei_mv E hw (b := 10 + w) (p' := 14) (E.2.2.2.2.1 _ x1 (Or.inr (by omega))) (by omega) (fun _ => Or.inr rfl) (by decide) (by decide)
  have M' := mu_mv (ph := dF xph) (lo := lo) (w := w) (b := 10 + w) (p' := 14) (by omega) x1 (by omega) (by omega)
  have b1 : mu_B 3 = 6 := rfl
  have b2 : mu_B 14 = 2 := rfl
  rw [hp'] at M'
  simp only [fu_s, fu_fu] at D2
  refine ⟨mu_M m (fu (dF xph) w 14) (fu lo (dF xslo (ds_ix rg w (tI xsb w))) (10 + w)), by omega, fu vb w (tI xsb w), tb, hn, fu lo (dF xslo (ds_ix rg w (tI xsb w))) (10 + w), ?_, ?_, ?_, by simp only [dF_u, dn14], ?_⟩
  · simp only [dF_u, dN_m, dn14]; exact D2
  · simp only [dF_u, dN_m, dn14]; exact J'
  · simp only [dF_u, dN_m, dn14]; exact E'
  · simp only [dF_u, dn14]; exact ph_ok Pm (by decide)
theorem xs_pop4a (h : xs_S wc rg m par dn wt mu xtop xbot xslo xph xcu xhe xit xst xsb xpv xjn xbl) (hwc : wc ≤ 4) (hm : m ≤ 48) {w : Nat} (hw : w < wc) (hp : xph w = 4) (hc : xtop w = xst w) : ∃ mu', mu' < mu ∧ xs_S wc rg m par dn wt mu' (upd xtop w (xst w + 1)) xbot xslo (upd xph w 5) xcu xhe xit xst xsb xpv xjn xbl := by
  obtain ⟨vb, tb, hn, lo, D, J, E, M, Pm⟩ := h
  have hp' := dp_n 4 4 (by decide) hp
  have hs : tI xtop w = tI xst w := by unfold tI; rw [hc]
  have a := D.1 w hw
  rw [hp'] at a
  have a2 : 0 ≤ tI xtop w ∧ tI xtop w ≤ 55 ∧ vb w = tI xtop w + 1 ∧ tI xsb w = tI xtop w := by unfold ds_W at a; omega
  have D2 := ds_pop4 D hwc hm hw hp' hs
  obtain ⟨x1, x2⟩ := D.2.2.2.1 w (tI xtop w) hw (by omega) (by omega)
  have x3 := (D.2.2.1 w hw).1 hp' hs
  rw [a2.2.2.2] at x3
  have J' := jk_mv J hw (b := 20 + w) (p' := 5) (cu' := dF xcu w) (it' := dF xit w) (by omega) (J.2.2.1 _ x1 (by omega)) x1 (Or.inl (by omega)) (fun z => by unfold ds_H at z; omega) (by decide) (by decide)
  have E' := ei_mv E hw (b := 20 + w) (p' := 5) (cu' := dF xcu w) (E.2.2.2.2.1 _ x1 (Or.inr (by omega))) (by omega) (fun z => by unfold ds_H at z; omega) (by decide) (by decide)
  have M' := mu_mv (ph := dF xph) (lo := lo) (w := w) (b := 20 + w) (p' := 5) (by omega) x1 (by omega) (by omega)
  have b1 : mu_B 4 = 5 := rfl
  have b2 : mu_B 5 = 4 := rfl
  rw [hp'] at M'
  rw [← x3, fu_id] at D2
  simp only [fu_id] at J' E'
  rw [← x3] at J' E' M'
  have e : (xst w + 1).toInt = tI xtop w + 1 := by
    rw [ii_p (by unfold tI at hs a2; omega)]; unfold tI at hs ⊢; omega
  refine ⟨mu_M m (fu (dF xph) w 5) (fu lo (dF xit w) (20 + w)), by omega, vb, tb, hn, fu lo (dF xit w) (20 + w), ?_, ?_, ?_, by simp only [dF_u, dn5], ?_⟩
  · simp only [dF_u, tI_u, dn5, e]; exact D2
  · simp only [dF_u, dn5]; exact J'
  · simp only [dF_u, dn5]; exact E'
  · simp only [dF_u, dn5]; exact ph_ok Pm (by decide)
theorem xs_pop5b (h : xs_S wc rg m par dn wt mu xtop xbot xslo xph xcu xhe xit xst xsb xpv xjn xbl) (hwc : wc ≤ 4) (hm : m ≤ 48) {w : Nat} (hw : w < wc) (hp : xph w = 5) (hc : ¬ xit w < 0) : ∃ mu', mu' < mu ∧ xs_S wc rg m par dn wt mu' xtop (upd xbot w (xsb w + 1)) xslo (upd xph w 14) (upd xcu w (xit w)) xhe (upd xit w (-1)) xst xsb xpv xjn xbl := by
  obtain ⟨vb, tb, hn, lo, D, J, E, M, Pm⟩ := h
  have hp' := dp_n 5 5 (by decide) hp
  have ni : dF xit w ≠ 99 := fun z => hc (dN_neg.mp z)
  have a := D.1 w hw
  rw [hp'] at a
  have a2 : -1 ≤ tI xsb w ∧ tI xsb w ≤ 55 := by unfold ds_W at a; omega
  obtain ⟨x1, x2⟩ := D.2.2.2.2.2.2.2.1 w hw (by rw [hp']; unfold ds_I; omega)
  have D1 := ds_loc D hw (p' := 21) (bt' := tI xsb w + 1) (sb' := tI xsb w) (st' := tI xst w) (tb' := tb w) (pv' := dF xpv w) (cu' := dF xcu w) (it' := dF xit w) (by unfold ds_W at a ⊢; omega) id (ds_V0 (by decide)) (fun z => absurd z (by decide)) (fun z => absurd z (by decide)) (by rw [hp']; unfold ds_H; omega) (by rw [hp']; unfold ds_I; omega) (fun _ => rfl) (fun _ => rfl) (fun z => absurd z (by decide))
  have D2 := ds_take D1 hwc hm hw fu_s
  have J' := jk_mv J hw (b := 10 + w) (p' := 14) (it' := 99) (by omega) (J.2.2.1 _ x1 (by omega)) x1 (Or.inr ⟨rfl, ds_H14, rfl⟩) (fun _ => Or.inr ⟨rfl, rfl⟩) (by decide) (by decide)
  have E' := ei_mv E hw (b := 10 + w) (p' := 14) (E.2.2.2.2.1 _ x1 (Or.inr (by omega))) (by omega) (fun _ => Or.inr rfl) (by decide) (by decide)
  have M' := mu_mv (ph := dF xph) (lo := lo) (w := w) (b := 10 + w) (p' := 14) (by omega) x1 (by omega) (by omega)
  have b1 : mu_B 5 = 4 := rfl
  have b2 : mu_B 14 = 2 := rfl
  rw [hp'] at M'
  simp only [fu_s, fu_fu, fu_id] at D2
  have e : (xsb w + 1).toInt = tI xsb w + 1 := ii_p (by unfold tI at a2; omega)
  refine ⟨mu_M m (fu (dF xph) w 14) (fu lo (dF xit w) (10 + w)), by omega, vb, tb, hn, fu lo (dF xit w) (10 + w), ?_, ?_, ?_, by simp only [dF_u, dn14], ?_⟩
  · simp only [dF_u, tI_u, dN_m, dn14, e]; exact D2
  · simp only [dF_u, dN_m, dn14]; exact J'
  · simp only [dF_u, dN_m, dn14]; exact E'
  · simp only [dF_u, dn14]; exact ph_ok Pm (by decide)
theorem xs_st9a (h : xs_S wc rg m par dn wt mu xtop xbot xslo xph xcu xhe xit xst xsb xpv xjn xbl) (hwc : wc ≤ 4) (hm : m ≤ 48) {w : Nat} (hw : w < wc) (hp : xph w = 9) (hvw : dN (xpv w) ≠ w) (hc : xtop (dN (xpv w)) = xst w) : ∃ mu', mu' ≤ mu ∧ xs_S wc rg m par dn wt mu' (upd xtop (dN (xpv w)) (xst w + 1)) xbot xslo (upd xph w 14) (upd xcu w (xit w)) xhe (upd xit w (-1)) xst xsb xpv xjn xbl := by
  obtain ⟨vb, tb, hn, lo, D, J, E, M, Pm⟩ := h
  have hp' := dp_n 9 9 (by decide) hp
  obtain ⟨v1, v2, v3, v4⟩ := D.2.1 w hw
  rw [hp'] at v1 v2 v3 v4
  have v1 := v1 (by omega)
  have hs : tI xst w = tI xtop (dF xpv w) := by unfold tI dF; rw [hc]
  have v3 := v3 (by omega) hs
  have v4 := v4 rfl hs
  have a := D.1 _ v1
  have a2 : 0 ≤ tI xtop (dF xpv w) ∧ tI xtop (dF xpv w) ≤ 55 ∧ tb (dF xpv w) ≤ vb (dF xpv w) := by unfold ds_W at a; omega
  obtain ⟨x1, x2⟩ := D.2.2.2.1 (dF xpv w) (tI xtop (dF xpv w)) v1 (by omega) (by omega)
  rw [hs] at v3 v4
  rw [← v4] at x1 x2
  have D2 := ds_take (ds_grab D hwc hm hw v1 hvw hp' v3 v4) hwc hm hw fu_s
  have J' := jk_mv J hw (b := 10 + w) (p' := 14) (it' := 99) (by omega) (J.2.2.1 _ x1 (by omega)) x1 (Or.inr ⟨rfl, ds_H14, rfl⟩) (fun _ => Or.inr ⟨rfl, rfl⟩) (by decide) (by decide)
  have E' := ei_mv E hw (b := 10 + w) (p' := 14) (E.2.2.2.2.1 _ x1 (Or.inr (by omega))) (by omega) (fun _ => Or.inr rfl) (by decide) (by decide)
  have M' := mu_mv (ph := dF xph) (lo := lo) (w := w) (b := 10 + w) (p' := 14) (by omega) x1 (by omega) (by omega)
  have b1 : mu_B 9 = 3 := rfl
  have b2 : mu_B 14 = 2 := rfl
  rw [hp'] at M'
  simp only [fu_s, fu_fu, fu_id] at D2
  have e : (xst w + 1).toInt = tI xtop (dF xpv w) + 1 := by
    rw [ii_p (by unfold tI at hs a2; omega)]; unfold tI at hs ⊢; omega
  refine ⟨mu_M m (fu (dF xph) w 14) (fu lo (dF xit w) (10 + w)), by omega, vb, tb, hn, fu lo (dF xit w) (10 + w), ?_, ?_, ?_, by simp only [dF_u, dn14], ?_⟩
  · simp only [dF_u, tI_u, dN_m, dn14, e]; exact D2
  · simp only [dF_u, dN_m, dn14]; exact J'
  · simp only [dF_u, dN_m, dn14]; exact E'
  · simp only [dF_u, dn14]; exact ph_ok Pm (by decide)
theorem xs_pu12 (h : xs_S wc rg m par dn wt mu xtop xbot xslo xph xcu xhe xit xst xsb xpv xjn xbl) (hwc : wc ≤ 4) (hr : 1 ≤ rg ∧ rg ≤ 8) {w : Nat} (hw : w < wc) (hp : xph w = 12) : ∃ mu', mu' < mu ∧ xs_S wc rg m par dn wt mu' xtop xbot (upd xslo (ds_ix rg w (xsb w).toInt) (xit w)) (upd xph w 13) xcu xhe xit xst xsb xpv xjn xbl := by
  obtain ⟨vb, tb, hn, lo, D, J, E, M, Pm⟩ := h
  have hp' := dp_n 12 12 (by decide) hp
  have D2 := ds_slot D hr hw hp'
  have J' := jk_loc J hw (p' := 13) (cu' := dF xcu w) (it' := dF xit w) (fun _ => ⟨by rw [hp']; unfold ds_H; omega, rfl, by rw [hp']; rfl⟩) (fun z => by omega) (fun z => by omega)
  have E' := ei_loc E hw (p' := 13) (cu' := dF xcu w) (fun _ => rfl) (fun z => by omega) (fun _ => by omega) (fun z => by omega)
  have M' := mu_ph (m := m) (ph := dF xph) (lo := lo) (w := w) (p' := 13) (by omega)
  have b1 : mu_B 12 = 4 := rfl
  have b2 : mu_B 13 = 3 := rfl
  rw [hp'] at M'
  simp only [fu_id] at J' E'
  refine ⟨mu_M m (fu (dF xph) w 13) (lo), by omega, vb, tb, hn, lo, ?_, ?_, ?_, by simp only [dF_u, dn13], ?_⟩
  · simp only [dF_u, dn13]; exact D2
  · simp only [dF_u, dn13]; exact J'
  · simp only [dF_u, dn13]; exact E'
  · simp only [dF_u, dn13]; exact ph_ok Pm (by decide)
theorem xs_pu13 (h : xs_S wc rg m par dn wt mu xtop xbot xslo xph xcu xhe xit xst xsb xpv xjn xbl) (hwc : wc ≤ 4) (hm : m ≤ 48) {w : Nat} (hw : w < wc) (hp : xph w = 13) : ∃ mu', mu' < mu ∧ xs_S wc rg m par dn wt mu' xtop (upd xbot w (xsb w + 1)) xslo (upd xph w 14) xcu xhe (upd xit w (-1)) xst xsb xpv xjn xbl := by
  obtain ⟨vb, tb, hn, lo, D, J, E, M, Pm⟩ := h
  have hp' := dp_n 13 13 (by decide) hp
  have a := D.1 w hw
  rw [hp'] at a
  have a2 : 0 ≤ tI xsb w ∧ tI xsb w ≤ 55 := by unfold ds_W at a; omega
  obtain ⟨x1, x2⟩ := D.2.2.2.2.2.2.2.1 w hw (by rw [hp']; unfold ds_I; omega)
  have D2 := ds_push D hwc hm hw hp'
  have J' := jk_mv J hw (b := 100 + 4 * (tI xsb w).toNat + w) (p' := 14) (cu' := dF xcu w) (it' := 99) (by omega) (J.2.2.1 _ x1 (by omega)) x1 (Or.inl (by omega)) (fun _ => Or.inl ⟨by rw [hp']; unfold ds_H; omega, rfl, by rw [hp']; rfl⟩) (by decide) (by decide)
  have E' := ei_mv E hw (b := 100 + 4 * (tI xsb w).toNat + w) (p' := 14) (cu' := dF xcu w) (E.2.2.2.2.1 _ x1 (Or.inr (by omega))) (by omega) (fun _ => Or.inl ⟨rfl, by omega, by omega⟩) (by decide) (by decide)
  have M' := mu_mv (ph := dF xph) (lo := lo) (w := w) (b := 100 + 4 * (tI xsb w).toNat + w) (p' := 14) (by omega) x1 (by omega) (by omega)
  have b1 : mu_B 13 = 3 := rfl
  have b2 : mu_B 14 = 2 := rfl
  rw [hp'] at M'
  simp only [fu_id] at J' E'
  have e : (xsb w + 1).toInt = tI xsb w + 1 := ii_p (by unfold tI at a2; omega)
  refine ⟨mu_M m (fu (dF xph) w 14) (fu lo (dF xit w) (100 + 4 * (tI xsb w).toNat + w)), by omega, fu vb w (tI xsb w + 1), fu tb w (tI xsb w + 1), hn, fu lo (dF xit w) (100 + 4 * (tI xsb w).toNat + w), ?_, ?_, ?_, by simp only [dF_u, dn14], ?_⟩
  · simp only [dF_u, tI_u, dN_m, dn14, e]; exact D2
  · simp only [dF_u, dN_m, dn14]; exact J'
  · simp only [dF_u, dN_m, dn14]; exact E'
  · simp only [dF_u, dn14]; exact ph_ok Pm (by decide)
theorem xs_pu11b (h : xs_S wc rg m par dn wt mu xtop xbot xslo xph xcu xhe xit xst xsb xpv xjn xbl) (hwc : wc ≤ 4) (hm : m ≤ 48) {w : Nat} (hw : w < wc) (hp : xph w = 11) : ∃ mu', mu' < mu ∧ xs_S wc rg m par dn wt mu' xtop xbot xslo (upd xph w 14) (upd xcu w (xit w)) (upd xhe w (xcu w)) (upd xit w (-1)) (upd xst w (xtop w)) xsb xpv xjn (upd xbl (dN (xcu w)) (xhe w)) := by
  obtain ⟨vb, tb, hn, lo, D, J, E, M, Pm⟩ := h
  have hp' := dp_n 11 11 (by decide) hp
  have a := D.1 w hw
  rw [hp'] at a
  have hH : ds_H (dF xph w) := by rw [hp']; unfold ds_H; omega
  obtain ⟨y1, y2⟩ := D.2.2.2.2.2.1 w hw hH
  obtain ⟨x1, x2⟩ := D.2.2.2.2.2.2.2.1 w hw (by rw [hp']; unfold ds_I; omega)
  have nxy : dF xit w ≠ dF xcu w := by intro z; rw [z] at x2; omega
  have D0 := ds_loc D hw (p' := 11) (bt' := tI xbot w) (sb' := tI xsb w) (st' := tI xtop w) (tb' := tb w) (pv' := dF xpv w) (cu' := dF xcu w) (it' := dF xit w) (by unfold ds_W at a ⊢; omega) id (ds_V0 (by decide)) (fun z => absurd z (by decide)) (fun z => absurd z (by decide)) (by rw [hp']) (by rw [hp']) (fun _ => rfl) (fun _ => rfl) (fun z => absurd z (by decide))
  simp only [fu_id] at D0
  have D2 := ds_take (ds_hold D0 hwc hm hw fu_s) hwc hm hw fu_s
  have hj := J.1 w hw hH
  rw [hp', show jk_q 11 = 1 from rfl] at hj
  have J1 := jk_mv J hw (x := dF xcu w) (b := 1000 + 4 * hn w + w) (p' := 21) (cu' := dF xcu w) (it' := dF xit w) (by omega) hj y1 (Or.inl (by omega)) (fun z => by unfold ds_H at z; omega) (by decide) (by decide)
  have E1 := ei_mv E hw (x := dF xcu w) (b := 1000 + 4 * hn w + w) (p' := 21) (cu' := dF xcu w) (E.2.2.2.1 w hw (by omega)) (by omega) (fun z => by unfold ds_H at z; omega) (by decide) (by decide)
  simp only [fu_id] at J1 E1
  have x3 : fu lo (dF xcu w) (1000 + 4 * hn w + w) (dF xit w) = 20 + w := by rw [fu_n nxy]; exact x2
  have J' := jk_mv J1 hw (x := dF xit w) (b := 10 + w) (p' := 14) (cu' := dF xit w) (it' := 99) (by omega) (J1.2.2.1 _ x1 (by omega)) x1 (Or.inr ⟨rfl, ds_H14, rfl⟩) (fun _ => Or.inr ⟨rfl, rfl⟩) (by decide) (by decide)
  have E' := ei_mv E1 hw (x := dF xit w) (b := 10 + w) (p' := 14) (cu' := dF xit w) (E1.2.2.2.2.1 _ x1 (Or.inr (by omega))) (by omega) (fun _ => Or.inr rfl) (by decide) (by decide)
  have M1 := mu_mv (ph := dF xph) (lo := lo) (w := w) (x := dF xcu w) (b := 1000 + 4 * hn w + w) (p' := 21) (by omega) y1 (by omega) (by omega)
  have M2 := mu_mv (ph := fu (dF xph) w 21) (lo := fu lo (dF xcu w) (1000 + 4 * hn w + w)) (w := w) (x := dF xit w) (b := 10 + w) (p' := 14) (by omega) x1 (by omega) (by omega)
  have b1 : mu_B 11 = 5 := rfl
  have b2 : mu_B 14 = 2 := rfl
  rw [hp'] at M1
  rw [fu_s] at M2
  simp only [fu_s, fu_fu, fu_id] at D2 J' E' M2
  refine ⟨mu_M m (fu (dF xph) w 14) (fu (fu lo (dF xcu w) (1000 + 4 * hn w + w)) (dF xit w) (10 + w)), by omega, vb, tb, fu hn w (hn w + 1), fu (fu lo (dF xcu w) (1000 + 4 * hn w + w)) (dF xit w) (10 + w), ?_, ?_, ?_, by simp only [dF_u, dn14], ?_⟩
  · simp only [dF_u, tI_u, dN_m, dn14]; exact D2
  · simp only [dF_u, dN_m, dn14]; exact J'
  · simp only [dF_u, dN_m, dn14]; exact E'
  · simp only [dF_u, dn14]; exact ph_ok Pm (by decide)
end
end
section
/-! turns of a task in hand -/
section
variable {wc rg m : Nat} {par : Nat → Nat} {dn wt dn' wt' : Nat → Prop} {mu : Nat} {xtop xbot xslo xph xcu xhe xit xst xsb xpv xjn xbl : Nat → Int32}
/-- between two writes: worker w has nothing in hand -/
def xs_R (wc rg m : Nat) (par : Nat → Nat) (dn wt : Nat → Prop) (mu w : Nat) (xtop xbot xslo xph xcu xhe xit xst xsb xpv xjn xbl : Nat → Int32) : Prop :=
  ∃ (vb tb : Nat → Int) (hn lo : Nat → Nat), ds_D rg wc m (fu (dF xph) w 20) (tI xtop) (tI xbot) (tI xsb) (tI xst) vb tb (dF xpv) (dF xcu) (dF xit) (dF xhe) hn (dF xbl) (dF xslo) lo ∧ jk_J wc m (fu (dF xph) w 20) (dF xcu) (dF xit) par (tI xjn) lo ∧ ei_E wc m (fu (dF xph) w 20) (dF xcu) lo dn wt ∧ mu_M m (fu (dF xph) w 20) lo = mu ∧ (∀ w, w < wc → dF xph w ≤ 19)
theorem xs_rest0 {w : Nat} (h : xs_R wc rg m par dn wt mu w xtop xbot xslo xph xcu xhe xit xst xsb xpv xjn xbl) (hwc : wc ≤ 4) (hm : m ≤ 48) (hw : w < wc) (hc : xhe w < 0) : ∃ mu', mu' < mu ∧ xs_S wc rg m par dn wt mu' xtop xbot xslo (upd xph w 0) (upd xcu w (xhe w)) xhe xit xst xsb xpv xjn xbl := by
  obtain ⟨vb, tb, hn, lo, D, J, E, M, Pm⟩ := h
  have h99 : dF xhe w = 99 := dN_neg.mpr hc
  have H1 := D.2.2.2.2.2.2.2.2.2.1 w hw
  have hn0 : hn w = 0 := by
    rcases Nat.eq_zero_or_pos (hn w) with z | z
    · exact z
    · have := (H1.2.1 z).1; omega
  have a := D.1 w hw
  rw [fu_s] at a
  have D2 := ds_loc D hw (p' := 0) (bt' := tI xbot w) (sb' := tI xsb w) (st' := tI xst w) (tb' := tb w) (pv' := dF xpv w) (cu' := dF xhe w) (it' := dF xit w) (by unfold ds_W at a ⊢; omega) id (ds_V0 (by decide)) (fun z => absurd z (by decide)) (fun z => absurd z (by decide)) (by rw [fu_s]; unfold ds_H; omega) (by rw [fu_s]; unfold ds_I; omega) (fun _ => rfl) (fun z => by unfold ds_H at z; omega) (fun _ => hn0)
  have J' := jk_loc J hw (p' := 0) (cu' := dF xhe w) (it' := dF xit w) (fun z => by unfold ds_H at z; omega) (fun z => by omega) (fun z => by omega)
  have E' := ei_loc E hw (p' := 0) (cu' := dF xhe w) (fun z => by unfold ds_H at z; omega) (fun z => by omega) (fun z => by omega) (fun z => by omega)
  have M' := mu_ph (m := m) (ph := fu (dF xph) w 20) (lo := lo) (w := w) (p' := 0) (by omega)
  have b1 : mu_B 20 = 10 := rfl
  have b2 : mu_B 0 = 9 := rfl
  rw [fu_s] at M'
  simp only [fu_id, fu_fu] at D2 J' E' M'
  refine ⟨mu_M m (fu (dF xph) w 0) lo, by omega, vb, tb, hn, lo, ?_, ?_, ?_, by simp only [dF_u, dn0], ?_⟩
  · simp only [dF_u, dn0]; exact D2
  · simp only [dF_u, dn0]; exact J'
  · simp only [dF_u, dn0]; exact E'
  · simp only [dF_u, dn0]; exact ph_ok Pm (by decide)
theorem xs_rest1 {w : Nat} (h : xs_R wc rg m par dn wt mu w xtop xbot xslo xph xcu xhe xit xst xsb xpv xjn xbl) (hwc : wc ≤ 4) (hm : m ≤ 48) (hw : w < wc) (hc : ¬ xhe w < 0) : dN (xhe w) < m ∧ ∃ mu', mu' < mu ∧ xs_S wc rg m par dn wt mu' xtop xbot xslo (upd xph w 14) (upd xcu w (xhe w)) (upd xhe w (xbl (dN (xhe w)))) xit xst xsb xpv xjn (upd xbl (dN (xhe w)) (-1)) := by
  obtain ⟨vb, tb, hn, lo, D, J, E, M, Pm⟩ := h
  have h99 : dF xhe w ≠ 99 := fun z => hc (dN_neg.mp z)
  have H1 := D.2.2.2.2.2.2.2.2.2.1 w hw
  have hn0 : 0 < hn w := by
    rcases Nat.eq_zero_or_pos (hn w) with z | z
    · exact absurd (H1.1 z) h99
    · exact z
  obtain ⟨x1, x2⟩ := H1.2.1 hn0
  refine ⟨x1, ?_⟩
  have D2 := ds_rest1 D hwc hm hw fu_s hn0
  have J' := jk_mv J hw (x := dF xhe w) (b := 10 + w) (p' := 14) (cu' := dF xhe w) (it' := dF xit w) (by omega) (J.2.2.1 _ x1 (by omega)) x1 (Or.inr ⟨rfl, ds_H14, rfl⟩) (fun _ => Or.inr ⟨rfl, rfl⟩) (by decide) (by decide)
  have E' := ei_mv E hw (x := dF xhe w) (b := 10 + w) (p' := 14) (cu' := dF xhe w) (E.2.2.2.2.1 _ x1 (Or.inr (by omega))) (by omega) (fun _ => Or.inr rfl) (by decide) (by decide)
  have M' := mu_mv (ph := fu (dF xph) w 20) (lo := lo) (w := w) (x := dF xhe w) (b := 10 + w) (p' := 14) (by omega) x1 (by omega) (by omega)
  have b1 : mu_B 20 = 10 := rfl
  have b2 : mu_B 14 = 2 := rfl
  rw [fu_s] at M'
  simp only [fu_id, fu_fu] at D2 J' E' M'
  refine ⟨mu_M m (fu (dF xph) w 14) (fu lo (dF xhe w) (10 + w)), by omega, vb, tb, fu hn w (hn w - 1), fu lo (dF xhe w) (10 + w), ?_, ?_, ?_, by simp only [dF_u, dn14], ?_⟩
  · simp only [dF_u, dn14, dN_m]; exact D2
  · simp only [dF_u, dn14]; exact J'
  · simp only [dF_u, dn14]; exact E'
  · simp only [dF_u, dn14]; exact ph_ok Pm (by decide)
/-- what the hand of a worker holds -/
theorem xs_hand (h : xs_S wc rg m par dn wt mu xtop xbot xslo xph xcu xhe xit xst xsb xpv xjn xbl) {w : Nat} (hw : w < wc) (hp : ds_H (dF xph w)) : dN (xcu w) < m := by
  obtain ⟨vb, tb, hn, lo, D, J, E, M, Pm⟩ := h
  exact (D.2.2.2.2.2.1 w hw hp).1
/-- the join counter of the task in hand is written, and the phase goes on -/
theorem xs_jn (h : xs_S wc rg m par dn wt mu xtop xbot xslo xph xcu xhe xit xst xsb xpv xjn xbl) (hwc : wc ≤ 4) (hm : m ≤ 48) {w p p' : Nat} (hw : w < wc) (hp : dF xph w = p) {P V : Int32} (eP : dN P = p')
    (hpp : (p = 15 ∧ p' = 10) ∨ (p = 16 ∧ p' = 17) ∨ (p = 18 ∧ p' = 14))
    (hW : ∀ tp bt sb st vb tb : Int, ds_W rg m p tp bt sb st vb tb → ds_W rg m p' tp bt sb st vb tb) (hI : ∀ i, ds_I p' i ↔ ds_I p i)
    (hV : ∀ k : Nat, k ≤ m → (xjn (dN (xcu w))).toInt = jk_q p + k → (V.toInt = jk_q p' + k ∨ (p = 18 ∧ k ≠ 0)) ∧ (p' = 17 → k = 0)) : ∃ mu', mu' < mu ∧ xs_S wc rg m par dn wt mu' xtop xbot xslo (upd xph w P) xcu xhe xit xst xsb xpv (upd xjn (dN (xcu w)) V) xbl := by
  obtain ⟨vb, tb, hn, lo, D, J, E, M, Pm⟩ := h
  subst hp
  have hH : ds_H (dF xph w) := by unfold ds_H; omega
  obtain ⟨y1, y2⟩ := D.2.2.2.2.2.1 w hw hH
  have a := D.1 w hw
  have hk : jk_K m par lo (dF xcu w) ≤ m := by
    have := sn_b (f := jk_f par lo (dF xcu w)) (c := 1) (n := m) (fun i _ => by unfold jk_f; split <;> omega)
    unfold jk_K; omega
  obtain ⟨v1, v2⟩ := hV _ hk (J.1 w hw hH)
  have k18 : dF xph w = 18 → jk_K m par lo (dF xcu w) = 0 := fun z => J.2.2.2.2.2.1 w hw (by omega)
  have D2 := ds_loc D hw (p' := p') (bt' := tI xbot w) (sb' := tI xsb w) (st' := tI xst w) (tb' := tb w) (pv' := dF xpv w) (cu' := dF xcu w) (it' := dF xit w) (hW _ _ _ _ _ _ a) id (ds_V0 (by omega)) (fun z => by omega) (fun z => by omega) (by unfold ds_H; omega) (hI _) (fun _ => rfl) (fun _ => rfl) (fun z => by omega)
  have J' := jk_jn J hw (p' := p') rfl (ds_cu D.2.2.2.2.2.1 hw hH) (by omega) (jv := V.toInt) (by rcases v1 with z | z; exact z; exact absurd (k18 z.1) z.2) (fun z => v2 (by omega)) (by omega)
  have E' := ei_loc E hw (p' := p') (cu' := dF xcu w) (fun _ => rfl) (fun z => by omega) (fun z => by omega) (fun z => by omega)
  have M' := mu_ph (m := m) (ph := dF xph) (lo := lo) (w := w) (p' := p') (by omega)
  have b1 : mu_B p' < mu_B (dF xph w) := by rcases hpp with ⟨z, rfl⟩ | ⟨z, rfl⟩ | ⟨z, rfl⟩ <;> (rw [z]; decide)
  simp only [fu_id] at D2 E'
  refine ⟨mu_M m (fu (dF xph) w p') lo, by omega, vb, tb, hn, lo, ?_, ?_, ?_, by simp only [dF_u, eP], ?_⟩
  · simp only [dF_u, eP]; exact D2
  · simp only [dF_u, tI_u, eP]; exact J'
  · simp only [dF_u, eP]; exact E'
  · simp only [dF_u, eP]; exact ph_ok Pm (by omega)
/-- the task in hand has to wait -/
theorem xs_wait (h : xs_S wc rg m par dn wt mu xtop xbot xslo xph xcu xhe xit xst xsb xpv xjn xbl) (hwc : wc ≤ 4) (hm : m ≤ 48) {w : Nat} (hw : w < wc) (hp : xph w = 16) (hc : ¬ xjn (dN (xcu w)) - 1 = 0) : ∃ mu', mu' < mu ∧ xs_R wc rg m par dn wt mu' w xtop xbot xslo xph xcu xhe xit xst xsb xpv (upd xjn (dN (xcu w)) (xjn (dN (xcu w)) - 1)) xbl := by
  obtain ⟨vb, tb, hn, lo, D, J, E, M, Pm⟩ := h
  have hp' := dp_n 16 16 (by decide) hp
  have hH : ds_H (dF xph w) := by unfold ds_H; omega
  obtain ⟨y1, y2⟩ := D.2.2.2.2.2.1 w hw hH
  have hk : jk_K m par lo (dF xcu w) ≤ m := by
    have := sn_b (f := jk_f par lo (dF xcu w)) (c := 1) (n := m) (fun i _ => by unfold jk_f; split <;> omega)
    unfold jk_K; omega
  have j1 := J.1 w hw hH
  rw [hp', show jk_q 16 = 1 from rfl] at j1
  have e : (xjn (dN (xcu w)) - 1).toInt = jk_K m par lo (dF xcu w) := by
    have j2 : (xjn (dN (xcu w))).toInt = 1 + jk_K m par lo (dF xcu w) := j1
    rw [ii_m (by omega)]; omega
  have kp : 0 < jk_K m par lo (dF xcu w) := by
    refine Nat.pos_of_ne_zero (fun z => hc ?_)
    rw [z] at e
    exact Int32.toInt_inj.mp e
  have D2 := ds_rel D hwc hm hw (c := 1) (by omega) hp' (by omega)
  have J' := jk_wait J hw rfl y1 (ds_cu D.2.2.2.2.2.1 hw hH) (by omega) e kp
  have E' := ei_rel E hw (c := 1) (y := dF xcu w) (by omega) (fun z => by omega) (fun _ => ⟨E.2.2.2.1 w hw (by omega), E.2.2.2.2.2.1 w hw (by omega)⟩)
  have M1 := mu_ph (m := m) (ph := dF xph) (lo := fu lo (dF xcu w) 1) (w := w) (p' := 20) (by omega)
  have M2 := mu_lo (m := m) (ph := dF xph) (lo := lo) (x := dF xcu w) (b := 1) y1
  have b1 : mu_B 20 = 10 := rfl
  have b2 : mu_B 16 = 1 := rfl
  have b3 : mu_L (lo (dF xcu w)) = 16 := if_neg (by omega)
  have b4 : mu_L 1 = 0 := rfl
  rw [hp'] at M1
  refine ⟨mu_M m (fu (dF xph) w 20) (fu lo (dF xcu w) 1), by omega, vb, tb, hn, fu lo (dF xcu w) 1, D2, ?_, E', rfl, Pm⟩
  simp only [tI_u]; exact J'
theorem xs_jb {vb tb : Nat → Int} {hn lo : Nat → Nat} (D : ds_D rg wc m (dF xph) (tI xtop) (tI xbot) (tI xsb) (tI xst) vb tb (dF xpv) (dF xcu) (dF xit) (dF xhe) hn (dF xbl) (dF xslo) lo) (J : jk_J wc m (dF xph) (dF xcu) (dF xit) par (tI xjn) lo) (hm : m ≤ 48) {t : Nat} (ht : t < m) : -100 ≤ (xjn t).toInt ∧ (xjn t).toInt ≤ 1000 := by
  have hk : jk_K m par lo t ≤ m := by
    have := sn_b (f := jk_f par lo t) (c := 1) (n := m) (fun i _ => by unfold jk_f; split <;> omega)
    unfold jk_K; omega
  have q : ∀ p, jk_q p ≤ 1 := fun p => by unfold jk_q; split <;> omega
  have key : (tI xjn t : Int) = jk_K m par lo t ∨ tI xjn t = 1 + jk_K m par lo t ∨ ∃ p, tI xjn t = jk_q p + jk_K m par lo t := by
    rcases D.2.2.2.2.2.2.2.2.2.2.2.1 t ht with z | ⟨v, hv, z⟩
    · exact Or.inl (J.2.1 t ht z)
    · rcases z with z | z | ⟨i, z, _⟩ | ⟨i, z⟩
      · obtain ⟨c1, c2⟩ := D.2.2.2.2.2.2.1 _ v ht hv z
        have j1 := J.1 v hv c1
        rw [c2] at j1
        exact Or.inr (Or.inr ⟨_, j1⟩)
      · exact Or.inr (Or.inl (J.2.2.1 t ht (by omega)))
      · exact Or.inr (Or.inl (J.2.2.1 t ht (by omega)))
      · exact Or.inr (Or.inl (J.2.2.1 t ht (by omega)))
  unfold tI at key
  rcases key with z | z | ⟨p, z⟩
  · omega
  · omega
  · have := q p; omega
/-- the ended task tells its parent, which goes on waiting or working -/
theorem xs_tell (h : xs_S wc rg m par dn wt mu xtop xbot xslo xph xcu xhe xit xst xsb xpv xjn xbl) (hwc : wc ≤ 4) (hm : m ≤ 48) (hpar : ∀ c, 0 < c → c < m → par c < c) {w : Nat} (hw : w < wc) (hp : xph w = 19) (hc : ¬ xjn (par (dN (xcu w))) - 1 = 0) : ∃ mu', mu' < mu ∧ xs_R wc rg m par dn wt mu' w xtop xbot xslo xph xcu xhe xit xst xsb xpv (upd xjn (par (dN (xcu w))) (xjn (par (dN (xcu w))) - 1)) xbl := by
  obtain ⟨vb, tb, hn, lo, D, J, E, M, Pm⟩ := h
  have hp' := dp_n 19 19 (by decide) hp
  have hH : ds_H (dF xph w) := by unfold ds_H; omega
  obtain ⟨y1, y2⟩ := D.2.2.2.2.2.1 w hw hH
  obtain ⟨e1, e2⟩ := E.2.2.1 w hw hp'
  have hpy := hpar (dF xcu w) e2 y1
  have jb := xs_jb D J hm (t := par (dF xcu w)) (by omega)
  have e : (xjn (par (dN (xcu w))) - 1).toInt = tI xjn (par (dF xcu w)) - 1 := ii_m jb
  have D2 := ds_rel D hwc hm hw (c := 0) (by omega) hp' (by omega)
  have J' := jk_tell J hw hp' rfl y1 e2 rfl hpy (by omega) e (fun z => hc (Int32.toInt_inj.mp z))
  have E' := ei_rel E hw (c := 0) (y := dF xcu w) (by omega) (fun _ => ⟨e2, e1⟩) (fun z => by omega)
  have M1 := mu_ph (m := m) (ph := dF xph) (lo := fu lo (dF xcu w) 0) (w := w) (p' := 20) (by omega)
  have M2 := mu_lo (m := m) (ph := dF xph) (lo := lo) (x := dF xcu w) (b := 0) y1
  have b1 : mu_B 20 = 10 := rfl
  have b2 : mu_B 19 = 1 := rfl
  have b3 : mu_L (lo (dF xcu w)) = 16 := if_neg (by omega)
  have b4 : mu_L 0 = 0 := rfl
  rw [hp'] at M1
  refine ⟨mu_M m (fu (dF xph) w 20) (fu lo (dF xcu w) 0), by omega, vb, tb, hn, fu lo (dF xcu w) 0, D2, ?_, E', rfl, Pm⟩
  simp only [tI_u]; exact J'
/-- the ended task tells its parent and wakes it -/
theorem xs_wake (h : xs_S wc rg m par dn wt mu xtop xbot xslo xph xcu xhe xit xst xsb xpv xjn xbl) (hwc : wc ≤ 4) (hm : m ≤ 48) (hpar : ∀ c, 0 < c → c < m → par c < c) {w : Nat} (hw : w < wc) (hp : xph w = 19) (hc : xjn (par (dN (xcu w))) - 1 = 0) : ∃ mu', mu' < mu ∧ xs_S wc rg m par dn wt mu' xtop xbot xslo (upd xph w 17) (upd xcu w (nI (par (dN (xcu w))))) xhe xit xst xsb xpv (upd xjn (par (dN (xcu w))) (xjn (par (dN (xcu w))) - 1)) xbl := by
  obtain ⟨vb, tb, hn, lo, D, J, E, M, Pm⟩ := h
  have hp' := dp_n 19 19 (by decide) hp
  have hH : ds_H (dF xph w) := by unfold ds_H; omega
  obtain ⟨y1, y2⟩ := D.2.2.2.2.2.1 w hw hH
  obtain ⟨e1, e2⟩ := E.2.2.1 w hw hp'
  have hpy := hpar (dF xcu w) e2 y1
  have jb := xs_jb D J hm (t := par (dF xcu w)) (by omega)
  have e : (xjn (par (dN (xcu w))) - 1).toInt = tI xjn (par (dF xcu w)) - 1 := ii_m jb
  have e0 : (xjn (par (dN (xcu w))) - 1).toInt = 0 := by rw [hc]; rfl
  have jp : tI xjn (par (dF xcu w)) = 1 := by omega
  have K1 : jk_K m par (fu lo (dF xcu w) 0) (par (dF xcu w)) + 1 = jk_K m par lo (par (dF xcu w)) := jk_end y1 e2 (by omega)
  have hlp : lo (par (dF xcu w)) = 1 := by
    rcases D.2.2.2.2.2.2.2.2.2.2.2.1 (par (dF xcu w)) (by omega) with z | ⟨v, hv, z⟩
    · rcases Nat.eq_zero_or_pos (lo (par (dF xcu w))) with z2 | z2
      · have := J.2.2.2.2.1 _ (by omega) z2; omega
      · omega
    · exfalso
      have big : 20 ≤ lo (par (dF xcu w)) → False := fun r => by
        have := J.2.2.1 _ (by omega) r; omega
      rcases z with z | z | ⟨i, z, _⟩ | ⟨i, z⟩
      · obtain ⟨c1, c2⟩ := D.2.2.2.2.2.2.1 _ v (by omega) hv z
        have j1 := J.1 v hv c1
        rw [c2, jp] at j1
        have hvw : v ≠ w := by intro q; subst q; omega
        by_cases q17 : 17 ≤ dF xph v
        · have := J.2.2.2.2.2.1 v hv (by unfold ds_H at c1; omega)
          rw [c2] at this; omega
        · by_cases q15 : dF xph v = 15
          · obtain ⟨i1, i2⟩ := D.2.2.2.2.2.2.2.1 v hv (by rw [q15]; unfold ds_I; omega)
            obtain ⟨k1, k2⟩ := J.2.2.2.2.2.2 v hv q15
            rw [q15, show jk_q 15 = 0 from rfl] at j1
            have k0 : jk_K m par (fu lo (dF xcu w) 0) (par (dF xcu w)) = 0 := by omega
            have l0 := jk_zero k0 i1 k2 (k1.trans c2)
            rw [fu_n (by intro q; rw [q] at i2; omega)] at l0
            omega
          · have : jk_q (dF xph v) = 1 := if_neg (by omega)
            omega
      · exact big (by omega)
      · exact big (by omega)
      · exact big (by omega)
  have hcu : ∀ v, v < wc → v ≠ w → ds_H (dF xph v) → dF xcu v ≠ par (dF xcu w) := by
    intro v hv _ r q
    have := (D.2.2.2.2.2.1 v hv r).2
    rw [q] at this; omega
  have npy : par (dF xcu w) ≠ dF xcu w := by omega
  have D2 := ds_wake (ds_rel D hwc hm hw (c := 0) (by omega) hp' (by omega)) hwc hm hw (p := par (dF xcu w)) fu_s (by omega) (by rw [fu_n npy]; exact hlp)
  have J' := jk_wake J hwc hw hp' rfl y1 e2 rfl hpy (by omega) hlp hcu e e0
  have E' := ei_wake (ei_rel E hw (c := 0) (y := dF xcu w) (by omega) (fun _ => ⟨e2, e1⟩) (fun z => by omega)) hw (p := par (dF xcu w)) (by omega) (by rw [fu_n npy]; exact hlp)
  have M1 := mu_ph (m := m) (ph := dF xph) (lo := fu (fu lo (dF xcu w) 0) (par (dF xcu w)) (10 + w)) (w := w) (p' := 17) (by omega)
  have M2 := mu_lo (m := m) (ph := dF xph) (lo := fu lo (dF xcu w) 0) (x := par (dF xcu w)) (b := 10 + w) (by omega)
  have M3 := mu_lo (m := m) (ph := dF xph) (lo := lo) (x := dF xcu w) (b := 0) y1
  have b1 : mu_B 17 = 0 := rfl
  have b2 : mu_B 19 = 1 := rfl
  have b3 : mu_L (lo (dF xcu w)) = 16 := if_neg (by omega)
  have b4 : mu_L 0 = 0 := rfl
  have b5 : mu_L (10 + w) = 16 := if_neg (by omega)
  have b6 : mu_L (fu lo (dF xcu w) 0 (par (dF xcu w))) = 0 := by rw [fu_n npy, hlp]; rfl
  rw [hp'] at M1
  simp only [fu_fu] at D2 E'
  have en : dN (nI (par (dF xcu w))) = par (dF xcu w) := dN_n (by omega)
  refine ⟨mu_M m (fu (dF xph) w 17) (fu (fu lo (dF xcu w) 0) (par (dF xcu w)) (10 + w)), by omega, vb, tb, hn, fu (fu lo (dF xcu w) 0) (par (dF xcu w)) (10 + w), ?_, ?_, ?_, by simp only [dF_u, dn17], ?_⟩
  · simp only [dF_u, dn17]; rw [show dN (nI (par (dN (xcu w)))) = par (dF xcu w) from en]; exact D2
  · simp only [dF_u, tI_u, dn17]; rw [show dN (nI (par (dN (xcu w)))) = par (dF xcu w) from en]; exact J'
  · simp only [dF_u, dn17]; rw [show dN (nI (par (dN (xcu w)))) = par (dF xcu w) from en]; exact E'
  · simp only [dF_u, dn17]; exact ph_ok Pm (by decide)
theorem xs_cc (h : xs_S wc rg m par dn wt mu xtop xbot xslo xph xcu xhe xit xst xsb xpv xjn xbl) (hwc : wc ≤ 4) (hm : m ≤ 48) {w : Nat} (hw : w < wc) (hp : xph w = 15) : ∃ mu', mu' < mu ∧ xs_S wc rg m par dn wt mu' xtop xbot xslo (upd xph w 10) xcu xhe xit xst xsb xpv (upd xjn (dN (xcu w)) (xjn (dN (xcu w)) + 1)) xbl := by
  refine xs_jn h hwc hm hw (dp_n 15 15 (by decide) hp) (P := 10) dn10 (by omega) (fun _ _ _ _ _ _ z => by unfold ds_W at z ⊢; omega) (fun i => by unfold ds_I; omega) ?_
  intro k hk e
  rw [show jk_q 15 = 0 from rfl] at e
  rw [show jk_q 10 = 1 from rfl, ii_p (by omega)]
  exact ⟨Or.inl (by omega), fun z => by omega⟩
theorem xs_jw0 (h : xs_S wc rg m par dn wt mu xtop xbot xslo xph xcu xhe xit xst xsb xpv xjn xbl) (hwc : wc ≤ 4) (hm : m ≤ 48) {w : Nat} (hw : w < wc) (hp : xph w = 16) (hc : xjn (dN (xcu w)) - 1 = 0) : ∃ mu', mu' < mu ∧ xs_S wc rg m par dn wt mu' xtop xbot xslo (upd xph w 17) xcu xhe xit xst xsb xpv (upd xjn (dN (xcu w)) (xjn (dN (xcu w)) - 1)) xbl := by
  refine xs_jn h hwc hm hw (dp_n 16 16 (by decide) hp) (P := 17) dn17 (by omega) (fun _ _ _ _ _ _ z => by unfold ds_W at z ⊢; omega) (fun i => by unfold ds_I; omega) ?_
  intro k hk e
  rw [show jk_q 16 = 1 from rfl] at e
  have e2 : (xjn (dN (xcu w)) - 1).toInt = 0 := by rw [hc]; rfl
  have e3 := ii_m (x := xjn (dN (xcu w))) (by omega)
  rw [show jk_q 17 = 0 from rfl]
  exact ⟨Or.inl (by omega), fun z => by omega⟩
theorem xs_ra (h : xs_S wc rg m par dn wt mu xtop xbot xslo xph xcu xhe xit xst xsb xpv xjn xbl) (hwc : wc ≤ 4) (hm : m ≤ 48) {w : Nat} (hw : w < wc) (hp : xph w = 18) : ∃ mu', mu' < mu ∧ xs_S wc rg m par dn wt mu' xtop xbot xslo (upd xph w 14) xcu xhe xit xst xsb xpv (upd xjn (dN (xcu w)) 1) xbl := by
  refine xs_jn h hwc hm hw (dp_n 18 18 (by decide) hp) (P := 14) dn14 (by omega) (fun _ _ _ _ _ _ z => by unfold ds_W at z ⊢; omega) (fun i => by unfold ds_I; omega) ?_
  intro k hk e
  have e1 : (1 : Int32).toInt = 1 := by decide
  rw [show jk_q 14 = 1 from rfl, e1]
  refine ⟨?_, fun z => by omega⟩
  by_cases q : k = 0
  · exact Or.inl (by omega)
  · exact Or.inr ⟨rfl, q⟩
/-- a line is carried out: the table changes at the task in hand -/
theorem xs_tab (h : xs_S wc rg m par dn wt mu xtop xbot xslo xph xcu xhe xit xst xsb xpv xjn xbl) (hwc : wc ≤ 4) (hm : m ≤ 48) {w p p' : Nat} (hw : w < wc) (hp : dF xph w = p) {P : Int32} (eP : dN P = p')
    (hpp : (p = 14 ∧ p' = 14) ∨ (p = 14 ∧ p' = 16) ∨ (p = 17 ∧ p' = 18) ∨ (p = 17 ∧ p' = 19))
    (hW : ∀ tp bt sb st vb tb : Int, ds_W rg m p tp bt sb st vb tb → ds_W rg m p' tp bt sb st vb tb) (hI : ∀ i, ds_I p' i ↔ ds_I p i)
    (hd : ∀ t, t ≠ dN (xcu w) → (dn' t ↔ dn t)) (hwt : ∀ t, t ≠ dN (xcu w) → (wt' t ↔ wt t)) (h19 : p' = 19 → dn' (dN (xcu w)) ∧ 0 < dN (xcu w)) (h18 : p' ≤ 18 → ¬ dn' (dN (xcu w))) (h16 : p' = 16 → wt' (dN (xcu w))) :
    ∃ mu', mu' + mu_B p = mu + mu_B p' ∧ xs_S wc rg m par dn' wt' mu' xtop xbot xslo (upd xph w P) xcu xhe xit xst xsb xpv xjn xbl := by
  obtain ⟨vb, tb, hn, lo, D, J, E, M, Pm⟩ := h
  subst hp
  have hH : ds_H (dF xph w) := by unfold ds_H; omega
  obtain ⟨y1, y2⟩ := D.2.2.2.2.2.1 w hw hH
  have a := D.1 w hw
  have hq : jk_q p' = jk_q (dF xph w) := by rcases hpp with ⟨z, rfl⟩ | ⟨z, rfl⟩ | ⟨z, rfl⟩ | ⟨z, rfl⟩ <;> (rw [z]; try decide)
  have D2 := ds_loc D hw (p' := p') (bt' := tI xbot w) (sb' := tI xsb w) (st' := tI xst w) (tb' := tb w) (pv' := dF xpv w) (cu' := dF xcu w) (it' := dF xit w) (hW _ _ _ _ _ _ a) id (ds_V0 (by omega)) (fun z => by omega) (fun z => by omega) (by unfold ds_H; omega) (hI _) (fun _ => rfl) (fun _ => rfl) (fun z => by omega)
  have J' := jk_loc J hw (p' := p') (cu' := dF xcu w) (it' := dF xit w) (fun z => ⟨hH, rfl, hq⟩) (fun z => by omega) (fun z => by omega)
  have E' := ei_tab (dn' := dn') (wt' := wt') E hw (p' := p') (y := dF xcu w) rfl (by omega) (ds_cu D.2.2.2.2.2.1 hw hH) hd hwt h19 (fun z => h18 (by omega)) (fun z => h16 (by omega))
  have M' := mu_ph (m := m) (ph := dF xph) (lo := lo) (w := w) (p' := p') (by omega)
  simp only [fu_id] at D2 J'
  refine ⟨mu_M m (fu (dF xph) w p') lo, by omega, vb, tb, hn, lo, ?_, ?_, ?_, by simp only [dF_u, eP], ?_⟩
  · simp only [dF_u, eP]; exact D2
  · simp only [dF_u, eP]; exact J'
  · simp only [dF_u, eP]; exact E'
  · simp only [dF_u, eP]; exact ph_ok Pm (by omega)
/-- a child is made -/
theorem xs_spawn (h : xs_S wc rg m par dn wt mu xtop xbot xslo xph xcu xhe xit xst xsb xpv xjn xbl) (hwc : wc ≤ 4) (h0 : 0 < m) (hm : m < 48) (hpar : ∀ c, 0 < c → c < m → par c < c) {w : Nat} (hw : w < wc) (hp : xph w = 14)
    (hd : ∀ t, t < m → t ≠ dN (xcu w) → (dn' t ↔ dn t)) (hwt : ∀ t, t < m → t ≠ dN (xcu w) → (wt' t ↔ wt t)) (hdm : ¬ dn' m) (hdy : ¬ dn' (dN (xcu w))) :
    ∃ mu', mu' = mu + 21 ∧ xs_S wc rg (m + 1) (fu par m (dN (xcu w))) dn' wt' mu' xtop xbot xslo (upd xph w 15) xcu xhe (upd xit w (nI m)) xst xsb xpv (upd xjn m 1) (upd xbl m (-1)) := by
  obtain ⟨vb, tb, hn, lo, D, J, E, M, Pm⟩ := h
  have hp' := dp_n 14 14 (by decide) hp
  have hH : ds_H (dF xph w) := by unfold ds_H; omega
  obtain ⟨y1, y2⟩ := D.2.2.2.2.2.1 w hw hH
  have a := D.1 w hw
  have a2 : vb w ≤ 7 + m := by unfold ds_W at a; omega
  have D2 := ds_new (ds_ext D) hwc (by omega) hw (p := m) hp' (by omega) fu_s (by omega)
  have J' := jk_spawn J hw hp' rfl h0 y1 (fun v hv r => (D.2.2.2.2.2.1 v hv r).1) (fun v hv r => (D.2.2.2.2.2.2.2.1 v hv (by rw [r]; unfold ds_I; omega)).1) (fun t h1 h2 => by have := hpar t h1 h2; omega) (ds_cu D.2.2.2.2.2.1 hw hH) (by omega)
  have E' := ei_new (dn' := dn') (wt' := wt') E hw h0 hp' rfl y1 (fun v hv r => (D.2.2.2.2.2.1 v hv r).1) (by omega) (ds_cu D.2.2.2.2.2.1 hw hH) hd hwt hdm hdy
  have M1 := mu_ph (m := m + 1) (ph := dF xph) (lo := fu lo m (20 + w)) (w := w) (p' := 15) (by omega)
  have M2 := mu_ext (m := m) (ph := dF xph) (lo := lo) (b := 20 + w)
  have b1 : mu_B 14 = 2 := rfl
  have b2 : mu_B 15 = 7 := rfl
  have b5 : mu_L (20 + w) = 16 := if_neg (by omega)
  rw [hp'] at M1
  simp only [fu_fu] at D2
  have en : dN (nI m) = m := dN_n (by omega)
  have e1 : (1 : Int32).toInt = 1 := by decide
  refine ⟨mu_M (m + 1) (fu (dF xph) w 15) (fu lo m (20 + w)), by omega, vb, tb, hn, fu lo m (20 + w), ?_, ?_, ?_, by simp only [dF_u, dn15], ?_⟩
  · simp only [dF_u, dn15, dN_m, en]; exact D2
  · simp only [dF_u, tI_u, dn15, en, e1]; exact J'
  · simp only [dF_u, dn15]; exact E'
  · simp only [dF_u, dn15]; exact ph_ok Pm (by decide)
/-- some worker is not stealing -/
theorem xs_live (h : xs_S wc rg m par dn wt mu xtop xbot xslo xph xcu xhe xit xst xsb xpv xjn xbl) (h0 : 0 < m) (hpar : ∀ c, 0 < c → c < m → par c < c) : ∃ w, w < wc ∧ ¬ (6 ≤ dF xph w ∧ dF xph w ≤ 9) := by
  obtain ⟨vb, tb, hn, lo, D, J, E, M, Pm⟩ := h
  exact ds_live D J E h0 hpar
end
end
section
/-! the component's arrays of tasks hold a table -/
section
/-- the program's lines are such as addLine lets in -/
def zl_pg (g : zl_G) : Prop := ∀ p, p < 4 → g.2.2.2 p ≤ 10 ∧ ∀ i, i < g.2.2.2 p → (∃ j, j ≤ 11 ∧ g.1 (p * 10 + i) = nI j) ∧ (∃ a, a < 4 ∧ g.2.1 (p * 10 + i) = nI a) ∧ ((g.1 (p * 10 + i) = 1 ∨ g.1 (p * 10 + i) = 2 ∨ g.1 (p * 10 + i) = 3 ∨ g.1 (p * 10 + i) = 4 ∨ g.1 (p * 10 + i) = 8 ∨ g.1 (p * 10 + i) = 10) → ∃ b, b < 4 ∧ g.2.2.1 (p * 10 + i) = nI b)
def zl_rem (l : zl_T) : Nat := if zl_dn l = true then 0 else 12 - zl_pc l
def zl_b (l : zl_T) : Prop := zl_pc l ≤ 11 ∧ zl_nl l ≤ 10 ∧ (zl_dn l = false → zl_nl l ≤ zl_pc l) ∧ zl_nk l ≤ zl_pc l
theorem zl_nxb {g : zl_G} (G : zl_pg g) (o : Nat → zl_O) {l : zl_T} (hp : zl_pr l < 4) (hd : zl_dn l = false) (h : zl_b l) : zl_b (zl_nx g o l) ∧ zl_rem (zl_nx g o l) + 1 ≤ zl_rem l ∧ (zl_s g l → zl_rem (zl_nx g o l) = zl_rem l - 1) := by
  obtain ⟨h1, h2, h3, h4⟩ := h
  have h3 := h3 hd
  have hl := (G _ hp).1
  have er : zl_rem l = 12 - zl_pc l := by unfold zl_rem; rw [hd]; rfl
  rw [er]
  unfold zl_s zl_e
  unfold zl_nx
  rw [if_neg (by rw [hd]; decide)]
  by_cases c0 : g.2.2.2 (zl_pr l) ≤ zl_pc l
  · rw [if_pos c0]
    refine ⟨⟨h1, h2, fun z => absurd (show true = false from z) (by decide), h4⟩, ?_, fun z => absurd c0 z.1⟩
    show 0 + 1 ≤ _; omega
  rw [if_neg c0]
  have key : ∀ (pc' : Nat) (l' : zl_T), zl_pc l' = pc' → zl_nl l' = zl_nl l + 1 → zl_dn l' = false → zl_nk l' ≤ zl_nk l + 1 → zl_pc l + 1 ≤ pc' → pc' ≤ zl_pc l + 2 → (zl_b l' ∧ zl_rem l' + 1 ≤ 12 - zl_pc l ∧ (pc' = zl_pc l + 1 → zl_rem l' = 12 - zl_pc l - 1)) := by
    intro pc' l' e1 e2 e3 e4 e5 e6
    have er' : zl_rem l' = 12 - pc' := by unfold zl_rem; rw [e3, e1]; rfl
    rw [er']
    refine ⟨⟨by omega, by omega, fun _ => by omega, by omega⟩, by omega, fun z => by omega⟩
  by_cases c1 : zl_op g l = 9
  · rw [if_pos c1]
    obtain ⟨a, b, c⟩ := key (zl_pc l + 1) (zl_pr l, zl_pc l + 1, fu (zl_rg l) (zl_la g l) (zl_fo o (zl_lb g l) (zl_rg l (zl_la g l)) (zl_ow l) (zl_nk l - zl_ow l)), zl_mx o (zl_ck l) (zl_ow l) (zl_nk l - zl_ow l) + 1, zl_nk l, zl_nk l, zl_rs l, false, zl_sp l, zl_tl l, zl_k l, zl_nl l + 1) rfl rfl rfl (Nat.le_succ _) (Nat.le_refl _) (Nat.le_succ _)
    exact ⟨a, b, fun _ => c rfl⟩
  rw [if_neg c1]
  by_cases c2 : zl_op g l = 11
  · rw [if_pos c2]
    refine ⟨⟨h1, ?_, fun z => absurd (show true = false from z) (by decide), h4⟩, ?_, fun z => absurd (z.2.symm.trans c2) (by decide)⟩
    · show zl_nl l + 1 ≤ 10; omega
    · show 0 + 1 ≤ _; omega
  rw [if_neg c2]
  by_cases c3 : zl_op g l = 8
  · rw [if_pos c3]
    obtain ⟨a, b, c⟩ := key (zl_pc l + 1) (zl_pr l, zl_pc l + 1, zl_rg l, zl_ck l + 1, zl_nk l + 1, zl_ow l, zl_rs l, false, fu (zl_sp l) (zl_nk l) (zl_la g l, zl_rg l (zl_lr g l), zl_ck l + 1), zl_tl l, zl_k l, zl_nl l + 1) rfl rfl rfl (Nat.le_refl _) (Nat.le_refl _) (Nat.le_succ _)
    exact ⟨a, b, fun _ => c rfl⟩
  rw [if_neg c3]
  by_cases c4 : zl_op g l = 10
  · rw [if_pos c4]
    obtain ⟨a, b, c⟩ := key (zl_pc l + 1) (zl_pr l, zl_pc l + 1, zl_rg l, zl_ck l + 1, zl_nk l, zl_ow l, zl_rs l, false, zl_sp l, fu (zl_tl l) (zl_la g l) (zl_tl l (zl_la g l) + zl_rg l (zl_lr g l)), zl_k l, zl_nl l + 1) rfl rfl rfl (Nat.le_succ _) (Nat.le_refl _) (Nat.le_succ _)
    exact ⟨a, b, fun _ => c rfl⟩
  rw [if_neg c4]
  by_cases c5 : zl_op g l = 6
  · rw [if_pos c5]
    obtain ⟨a, b, c⟩ := key (if zl_rg l (zl_la g l) < zl_lb g l then zl_pc l + 1 else zl_pc l + 2) (zl_pr l, (if zl_rg l (zl_la g l) < zl_lb g l then zl_pc l + 1 else zl_pc l + 2), zl_rg l, zl_ck l + 1, zl_nk l, zl_ow l, zl_rs l, false, zl_sp l, zl_tl l, zl_k l, zl_nl l + 1) rfl rfl rfl (Nat.le_succ _) (by split <;> omega) (by split <;> omega)
    exact ⟨a, b, fun z => absurd z.2 c3⟩
  rw [if_neg c5]
  by_cases c6 : zl_op g l = 7
  · rw [if_pos c6]
    obtain ⟨a, b, c⟩ := key (if zl_rg l (zl_la g l) = zl_lb g l then zl_pc l + 1 else zl_pc l + 2) (zl_pr l, (if zl_rg l (zl_la g l) = zl_lb g l then zl_pc l + 1 else zl_pc l + 2), zl_rg l, zl_ck l + 1, zl_nk l, zl_ow l, zl_rs l, false, zl_sp l, zl_tl l, zl_k l, zl_nl l + 1) rfl rfl rfl (Nat.le_succ _) (by split <;> omega) (by split <;> omega)
    exact ⟨a, b, fun z => absurd z.2 c3⟩
  rw [if_neg c6]
  obtain ⟨a, b, c⟩ := key (zl_pc l + 1) (zl_pr l, zl_pc l + 1, fu (zl_rg l) (zl_la g l) (zl_cv (zl_op g l) (zl_rg l (zl_la g l)) (zl_rg l (zl_lr g l)) (zl_lb g l)), zl_ck l + 1, zl_nk l, zl_ow l, zl_rs l, false, zl_sp l, zl_tl l, zl_k l, zl_nl l + 1) rfl rfl rfl (Nat.le_succ _) (Nat.le_refl _) (Nat.le_succ _)
  exact ⟨a, b, fun z => absurd z.2 c3⟩
theorem zl_rb {g : zl_G} (G : zl_pg g) (p : zl_P) (hp : p.1 < 4) (o : Nat → zl_O) : ∀ j, zl_b (zl_rn g p o j)
  | 0 => ⟨Nat.zero_le _, Nat.zero_le _, fun _ => Nat.le_refl _, Nat.le_refl _⟩
  | j + 1 => by
    have ih := zl_rb G p hp o j
    show zl_b (zl_nx g o (zl_rn g p o j))
    cases hd : zl_dn (zl_rn g p o j) with
    | true => rw [zl_nd hd]; exact ih
    | false => exact (zl_nxb G o (by rw [zl_rpr]; exact hp) hd ih).1
theorem zg_b {g : zl_G} (G : zl_pg g) {m : Nat} {st : Nat → zl_T} {par kx : Nat → Nat} {kid : Nat → Nat → Nat} {pm : Nat → zl_P} (Q : zg_G g m st par kx kid pm) (hp : ∀ t, t < m → (pm t).1 < 4) {t : Nat} (ht : t < m) : zl_b (st t) := by
  obtain ⟨o, j, e, _⟩ := Q.2.2.2.2 t ht
  rw [e]; exact zl_rb G _ (hp t ht) o j
/-- the arrays of tasks -/
def xt_T (m : Nat) (st : Nat → zl_T) (par kx : Nat → Nat) (kid : Nat → Nat → Nat) (pm : Nat → zl_P) (fmd fwd : Int32) (xce xlc xpr xar xpa xfk xlk xnk xow xki xfo xre xbe xck xru xpc xrg : Nat → Int32) : Prop :=
  fmd = nI m ∧ fwd = nI (sn_s (fun t => zl_nl (st t)) m) ∧
  (∀ c, c < 4 → xce c = si_s (fun t => zl_tl (st t) c) m) ∧
  (∀ i, i < 40 → xlc i = nI (sn_s (fun t => zl_cn (st t) i) m)) ∧
  (∀ t, t < m → xpr t = nI (zl_pr (st t))) ∧ (∀ t, t < m → xar t = (pm t).2.1) ∧ (∀ t, t < m → xbe t = (pm t).2.2) ∧
  (∀ t, t < m → xpa t = if t = 0 then -1 else nI (par t)) ∧
  (∀ t, t < m → xfk t = if 0 < zl_nk (st t) then nI (kid t 0) else -1) ∧
  (∀ t, t < m → 0 < zl_nk (st t) → xlk t = nI (kid t (zl_nk (st t) - 1))) ∧
  (∀ t, t < m → xnk t = if 0 < t ∧ kx t + 1 < zl_nk (st (par t)) then nI (kid (par t) (kx t + 1)) else -1) ∧
  (∀ t, t < m → xow t = if zl_ow (st t) < zl_nk (st t) then nI (kid t (zl_ow (st t))) else -1) ∧
  (∀ t, t < m → xki t = nI (zl_nk (st t))) ∧ (∀ t, t < m → xfo t = nI (zl_ow (st t))) ∧ (∀ t, t < m → xre t = zl_rs (st t)) ∧
  (∀ t, t < m → xck t = zl_ck (st t)) ∧ (∀ t, t < m → xru t = if zl_dn (st t) = true then 1 else 0) ∧ (∀ t, t < m → xpc t = nI (zl_pc (st t))) ∧
  (∀ t r, t < m → r < 4 → xrg (4 * t + r) = zl_rg (st t) r)
theorem xt_f {m : Nat} {st : Nat → zl_T} {F : Nat → zl_T → Int32} {x : Nat → Int32} (h : ∀ i, i < m → x i = F i (st i)) {t : Nat} {l' : zl_T} {V : Int32} (e : V = F t l') : ∀ i, i < m → upd x t V i = F i (fu st t l' i) := by
  intro i hi
  by_cases q : i = t
  · subst q; rw [us_s, fu_s]; exact e
  · rw [us_n q, fu_n q]; exact h i hi
theorem xt_k {m : Nat} {st : Nat → zl_T} {F : Nat → zl_T → Int32} {x : Nat → Int32} (h : ∀ i, i < m → x i = F i (st i)) {t : Nat} {l' : zl_T} (e : F t (st t) = F t l') : ∀ i, i < m → x i = F i (fu st t l' i) := by
  intro i hi
  by_cases q : i = t
  · subst q; rw [fu_s, ← e]; exact h i hi
  · rw [fu_n q]; exact h i hi
theorem i32_rc {a b c : Int32} (h : a + c = b + c) : a = b := by
  have := congrArg (fun z => z - c) h
  simpa [Int32.add_sub_cancel] using this
variable {m : Nat} {st : Nat → zl_T} {par kx : Nat → Nat} {kid : Nat → Nat → Nat} {pm : Nat → zl_P} {fmd fwd : Int32} {xce xlc xpr xar xpa xfk xlk xnk xow xki xfo xre xbe xck xru xpc xrg : Nat → Int32}
/-- a line that spawns nothing -/
theorem xt_up (T : xt_T m st par kx kid pm fmd fwd xce xlc xpr xar xpa xfk xlk xnk xow xki xfo xre xbe xck xru xpc xrg) {t : Nat} (ht : t < m) {l' : zl_T} {fwd' : Int32} {xce' xlc' xrg' : Nat → Int32} {Vck Vpc Vre Vru Vfo Vow : Int32}
    (epr : zl_pr l' = zl_pr (st t)) (enk : zl_nk l' = zl_nk (st t)) (hck : Vck = zl_ck l') (hpc : Vpc = nI (zl_pc l')) (hre : Vre = zl_rs l') (hru : Vru = if zl_dn l' = true then 1 else 0) (hfo : Vfo = nI (zl_ow l')) (how : Vow = if zl_ow l' < zl_nk l' then nI (kid t (zl_ow l')) else -1)
    (hrg : ∀ r, r < 4 → xrg' (4 * t + r) = zl_rg l' r) (hrg2 : ∀ t' r, t' ≠ t → r < 4 → xrg' (4 * t' + r) = xrg (4 * t' + r))
    (hce : ∀ c, c < 4 → xce' c + zl_tl (st t) c = xce c + zl_tl l' c) (hlc : ∀ i, i < 40 → xlc' i + nI (zl_cn (st t) i) = xlc i + nI (zl_cn l' i)) (hwd : fwd' + nI (zl_nl (st t)) = fwd + nI (zl_nl l')) :
    xt_T m (fu st t l') par kx kid pm fmd fwd' xce' xlc' xpr xar xpa xfk xlk xnk (upd xow t Vow) xki (upd xfo t Vfo) (upd xre t Vre) xbe (upd xck t Vck) (upd xru t Vru) (upd xpc t Vpc) xrg' := by
  obtain ⟨T1, T2, T3, T4, T5, T6, T7, T8, T9, T10, T11, T12, T13, T14, T15, T16, T17, T18, T19⟩ := T
  have en : ∀ i, zl_nk (fu st t l' i) = zl_nk (st i) := by
    intro i
    by_cases q : i = t
    · subst q; rw [fu_s]; exact enk
    · rw [fu_n q]
  refine ⟨T1, ?_, ?_, ?_, xt_k (F := fun _ l => nI (zl_pr l)) T5 (by rw [epr]), T6, T7, T8, ?_, ?_, ?_, xt_f (F := fun i l => if zl_ow l < zl_nk l then nI (kid i (zl_ow l)) else -1) T12 how, xt_k (F := fun _ l => nI (zl_nk l)) T13 (by rw [enk]), xt_f (F := fun _ l => nI (zl_ow l)) T14 hfo, xt_f (F := fun _ l => zl_rs l) T15 hre, xt_f (F := fun _ l => zl_ck l) T16 hck, xt_f (F := fun _ l => if zl_dn l = true then 1 else 0) T17 hru, xt_f (F := fun _ l => nI (zl_pc l)) T18 hpc, ?_⟩
  · have a := sn_u (f := fun t => zl_nl (st t)) (t := t) (v := zl_nl l') ht
    have e : sn_s (fun i => zl_nl (fu st t l' i)) m = sn_s (fu (fun t => zl_nl (st t)) t (zl_nl l')) m := sn_c (fun i _ => by unfold fu; split <;> rfl)
    rw [e]
    refine i32_rc (c := nI (zl_nl (st t))) ?_
    rw [hwd, nI_add, a, T2, nI_add]
  · intro c hc
    have a := si_u (f := fun t => zl_tl (st t) c) (t := t) (v := zl_tl l' c) ht
    have e : si_s (fun i => zl_tl (fu st t l' i) c) m = si_s (fu (fun t => zl_tl (st t) c) t (zl_tl l' c)) m := si_c (fun i _ => by unfold fu; split <;> rfl)
    rw [e]
    refine i32_rc (c := zl_tl (st t) c) ?_
    rw [hce c hc, T3 c hc]; exact a.symm
  · intro i hi
    have a := sn_u (f := fun t => zl_cn (st t) i) (t := t) (v := zl_cn l' i) ht
    have e : sn_s (fun j => zl_cn (fu st t l' j) i) m = sn_s (fu (fun t => zl_cn (st t) i) t (zl_cn l' i)) m := sn_c (fun i _ => by unfold fu; split <;> rfl)
    rw [e]
    refine i32_rc (c := nI (zl_cn (st t) i)) ?_
    rw [hlc i hi, nI_add, a, T4 i hi, nI_add]
  · intro i hi; rw [en]; exact T9 i hi
  · intro i hi; rw [en]; exact T10 i hi
  · intro i hi; rw [en]; exact T11 i hi
  · intro i r hi hr
    by_cases q : i = t
    · subst q; rw [fu_s]; exact hrg r hr
    · rw [fu_n q, hrg2 i r q hr]; exact T19 i r hi hr
end
end
section
/-! the component's arrays when a child is made -/
section
variable {g : zl_G} {m : Nat} {st : Nat → zl_T} {par kx : Nat → Nat} {kid : Nat → Nat → Nat} {pm : Nat → zl_P} {fmd fwd : Int32} {xce xlc xpr xar xpa xfk xlk xnk xow xki xfo xre xbe xck xru xpc xrg : Nat → Int32}
theorem xt_sp (G : zg_G g m st par kx kid pm) (T : xt_T m st par kx kid pm fmd fwd xce xlc xpr xar xpa xfk xlk xnk xow xki xfo xre xbe xck xru xpc xrg) (hm : m < 48) {t : Nat} (ht : t < m) (hd : zl_dn (st t) = false) (hs : zl_s g (st t)) (o0 : Nat → zl_O) {ln : Nat} (hln : ln = zl_at (st t)) {A : Int32} (hA : A = zl_rg (st t) (zl_lr g (st t))) {P : Int32} (hP : xpc t = P) {fk' nk' ow' : Nat → Int32}
    (hf : (0 ≤ xfk t ∧ fk' = upd xfk m (-1) ∧ nk' = upd (upd xnk m (-1)) (xlk t).toNatClampNeg (nI m)) ∨ (¬ 0 ≤ xfk t ∧ fk' = upd (upd xfk m (-1)) t (nI m) ∧ nk' = upd xnk m (-1)))
    (ho : (0 ≤ xow t ∧ ow' = upd xow m (-1)) ∨ (¬ 0 ≤ xow t ∧ ow' = upd (upd xow m (-1)) t (nI m))) :
    xt_T (m + 1) (fu (fu st t (zl_nx g o0 (st t))) m (zl_ini (zl_la g (st t), zl_rg (st t) (zl_lr g (st t)), zl_ck (st t) + 1))) (fu par m t) (fu kx m (zl_nk (st t))) (zg_k kid t (zl_nk (st t)) m) (fu pm m (zl_la g (st t), zl_rg (st t) (zl_lr g (st t)), zl_ck (st t) + 1))
      (nI m + 1) (fwd + 1) xce (upd xlc ln (xlc ln + 1)) (upd xpr m (nI (zl_la g (st t)))) (upd xar m A) (upd xpa m (nI t)) fk' (upd (upd xlk m (-1)) t (nI m)) nk' ow' (upd (upd xki m 0) t (upd xki m 0 t + 1)) (upd xfo m 0) (upd xre m 0) (upd xbe m (upd xck t (xck t + 1) t)) (upd (upd xck t (xck t + 1)) m (upd xck t (xck t + 1) t)) (upd xru m 0) (upd (upd xpc t (P + 1)) m 0) (upd (upd (upd (upd xrg (4 * m) A) (4 * m + 1) 0) (4 * m + 2) 0) (4 * m + 3) 0) := by
  obtain ⟨T1, T2, T3, T4, T5, T6, T7, T8, T9, T10, T11, T12, T13, T14, T15, T16, T17, T18, T19⟩ := T
  obtain ⟨G0, G1, G2, G3, G4⟩ := id G
  have ok := (zg_ok G ht).1
  have nw := zl_sw hs
  have el : zl_nx g o0 (st t) = (zl_pr (st t), zl_pc (st t) + 1, zl_rg (st t), zl_ck (st t) + 1, zl_nk (st t) + 1, zl_ow (st t), zl_rs (st t), false, fu (zl_sp (st t)) (zl_nk (st t)) (zl_la g (st t), zl_rg (st t) (zl_lr g (st t)), zl_ck (st t) + 1), zl_tl (st t), zl_k (st t), zl_nl (st t) + 1) := by
    unfold zl_nx
    have h0 : ¬ g.2.2.2 (zl_pr (st t)) ≤ zl_pc (st t) := hs.1
    have h1 : ¬ zl_op g (st t) = 9 := fun q => nw (Or.inr (Or.inl q))
    have h2 : ¬ zl_op g (st t) = 11 := fun q => nw (Or.inr (Or.inr q))
    rw [if_neg (by rw [hd]; decide), if_neg h0, if_neg h1, if_neg h2, if_pos hs.2]
  rw [el]
  generalize ep : (zl_la g (st t), zl_rg (st t) (zl_lr g (st t)), zl_ck (st t) + 1) = p
  generalize el' : (zl_pr (st t), zl_pc (st t) + 1, zl_rg (st t), zl_ck (st t) + 1, zl_nk (st t) + 1, zl_ow (st t), zl_rs (st t), false, fu (zl_sp (st t)) (zl_nk (st t)) p, zl_tl (st t), zl_k (st t), zl_nl (st t) + 1) = l'
  have p1 : p.1 = zl_la g (st t) := by rw [← ep]
  have p2 : p.2.1 = A := by rw [← ep]; exact hA.symm
  have p3 : p.2.2 = zl_ck (st t) + 1 := by rw [← ep]
  have l1 : zl_pr l' = zl_pr (st t) := by rw [← el']; rfl
  have l2 : zl_pc l' = zl_pc (st t) + 1 := by rw [← el']; rfl
  have l3 : zl_rg l' = zl_rg (st t) := by rw [← el']; rfl
  have l4 : zl_ck l' = zl_ck (st t) + 1 := by rw [← el']; rfl
  have l5 : zl_nk l' = zl_nk (st t) + 1 := by rw [← el']; rfl
  have l6 : zl_ow l' = zl_ow (st t) := by rw [← el']; rfl
  have l7 : zl_rs l' = zl_rs (st t) := by rw [← el']; rfl
  have l8 : zl_dn l' = false := by rw [← el']; rfl
  have l9 : zl_tl l' = zl_tl (st t) := by rw [← el']; rfl
  have l10 : zl_cn l' = zl_k (st t) := by rw [← el']; rfl
  have l11 : zl_nl l' = zl_nl (st t) + 1 := by rw [← el']; rfl
  have Sm : fu (fu st t l') m (zl_ini p) m = zl_ini p := fu_s
  have tm : t ≠ m := by omega
  have St : fu (fu st t l') m (zl_ini p) t = l' := by rw [fu_n tm, fu_s]
  have So : ∀ i, i ≠ m → i ≠ t → fu (fu st t l') m (zl_ini p) i = st i := fun i a b => by rw [fu_n a, fu_n b]
  have Fs : ∀ F : zl_T → Nat, F (zl_ini p) = 0 → sn_s (fun i => F (fu (fu st t l') m (zl_ini p) i)) (m + 1) + F (st t) = sn_s (fun i => F (st i)) m + F l' := by
    intro F h0
    have a := sn_u (f := fun i => F (st i)) (t := t) (v := F l') ht
    have e : sn_s (fun i => F (fu (fu st t l') m (zl_ini p) i)) m = sn_s (fu (fun i => F (st i)) t (F l')) m := sn_c (fun i hi => by rw [fu_n (by omega)]; unfold fu; split <;> rfl)
    rw [sn_1, Sm, h0, e]; exact a
  have three : ∀ {x x' : Nat → Int32} {F : Nat → zl_T → Int32}, (∀ i, i < m → x i = F i (st i)) → x' m = F m (zl_ini p) → x' t = F t l' → (∀ i, i ≠ m → i ≠ t → x' i = x i) → ∀ i, i < m + 1 → x' i = F i (fu (fu st t l') m (zl_ini p) i) := by
    intro x x' F h1 h2 h3 h4 i hi
    by_cases q : i = m
    · subst q; rw [Sm]; exact h2
    · by_cases q2 : i = t
      · subst q2; rw [St]; exact h3
      · rw [So i q q2, h4 i q q2]; exact h1 i (by omega)
  have ki0 : ∀ k, k < zl_nk (st t) → zg_k kid t (zl_nk (st t)) m t k = kid t k := fun k hk => zg_kn (by rintro ⟨_, z⟩; omega)
  have kio : ∀ i k, i ≠ t → zg_k kid t (zl_nk (st t)) m i k = kid i k := fun i k q => zg_kn (fun z => q z.1)
  have fk0 : (0 ≤ xfk t ↔ 0 < zl_nk (st t)) := by
    rw [T9 t ht]
    by_cases q : 0 < zl_nk (st t)
    · rw [if_pos q]
      have := (G2 t 0 ht q).2.1
      exact ⟨fun _ => q, fun _ => nI_pos' (by omega)⟩
    · rw [if_neg q]; exact ⟨fun z => absurd z (by decide), fun z => absurd z q⟩
  have ow0 : (0 ≤ xow t ↔ zl_ow (st t) < zl_nk (st t)) := by
    rw [T12 t ht]
    by_cases q : zl_ow (st t) < zl_nk (st t)
    · rw [if_pos q]
      have := (G2 t _ ht q).2.1
      exact ⟨fun _ => q, fun _ => nI_pos' (by omega)⟩
    · rw [if_neg q]; exact ⟨fun z => absurd z (by decide), fun z => absurd z q⟩
  refine ⟨nI_1 m, ?_, ?_, ?_, ?_, ?_, ?_, ?_, ?_, ?_, ?_, ?_, ?_, ?_, ?_, ?_, ?_, ?_, ?_⟩
  · have a := Fs zl_nl rfl
    rw [l11] at a
    rw [T2, nI_1]
    exact congrArg nI (by omega)
  · intro c hc
    rw [T3 c hc, si_1, Sm]
    have e : si_s (fun i => zl_tl (fu (fu st t l') m (zl_ini p) i) c) m = si_s (fun i => zl_tl (st i) c) m := si_c (fun i hi => by
      by_cases q2 : i = t
      · subst q2; rw [St, l9]
      · rw [So i (by omega) q2])
    rw [e]; exact (Int32.add_zero _).symm
  · intro i hi
    have a := Fs (fun l => zl_cn l i) rfl
    have e : zl_cn l' i = if i = ln then zl_cn (st t) i + 1 else zl_cn (st t) i := by
      rw [l10, hln]; unfold zl_k fu; split
      · next h => rw [h]
      · rfl
    by_cases q : i = ln
    · subst q
      rw [us_s, T4 i hi, nI_1]
      rw [if_pos rfl] at e
      exact congrArg nI (by omega)
    · rw [us_n q, T4 i hi]
      rw [if_neg q] at e
      exact congrArg nI (by omega)
  · refine three (F := fun _ l => nI (zl_pr l)) T5 ?_ ?_ ?_
    · rw [us_s]; show nI (zl_la g (st t)) = nI p.1; rw [p1]
    · rw [us_n tm, T5 t ht]; show _ = nI (zl_pr l'); rw [l1]
    · intro i a b; exact us_n a
  · intro i hi
    by_cases q : i = m
    · subst q; rw [us_s, fu_s, p2]
    · rw [us_n q, fu_n q]; exact T6 i (by omega)
  · intro i hi
    by_cases q : i = m
    · subst q; rw [us_s, fu_s, p3, us_s, T16 t ht]
    · rw [us_n q, fu_n q]; exact T7 i (by omega)
  · intro i hi
    by_cases q : i = m
    · subst q; rw [us_s, fu_s, if_neg (by omega)]
    · rw [us_n q, fu_n q]; exact T8 i (by omega)
  · refine three (F := fun i l => if 0 < zl_nk l then nI (zg_k kid t (zl_nk (st t)) m i 0) else -1) (x := fun i => if i = t then (if 0 < zl_nk (st t) then nI (zg_k kid t (zl_nk (st t)) m t 0) else -1) else xfk i) ?_ ?_ ?_ ?_
    · intro i hi

      by_cases q : i = t
      · subst q; rw [if_pos rfl]
      · rw [if_neg q, kio i 0 q]; exact T9 i hi
    · skip
      rw [if_neg (show ¬ 0 < zl_nk (zl_ini p) from Nat.lt_irrefl _)]
      rcases hf with ⟨_, h, _⟩ | ⟨_, h, _⟩
      · rw [h, us_s]
      · rw [h, us_n (fun z => tm z.symm), us_s]
    · skip
      rw [l5, if_pos (by omega)]
      rcases hf with ⟨h0, h, _⟩ | ⟨h0, h, _⟩
      · have q := fk0.mp h0
        rw [h, us_n tm, T9 t ht, if_pos q, ki0 0 q]
      · have q : zl_nk (st t) = 0 := by
          rcases Nat.eq_zero_or_pos (zl_nk (st t)) with z | z
          · exact z
          · exact absurd (fk0.mpr z) h0
        rw [h, us_s, q, zg_ks]
    · intro i a b

      rw [if_neg b]
      rcases hf with ⟨_, h, _⟩ | ⟨_, h, _⟩
      · rw [h, us_n a]
      · rw [h, us_n b, us_n a]
  · intro i hi
    by_cases q : i = m
    · subst q; rw [Sm]; intro z; exact absurd z (Nat.not_lt_zero _)
    · by_cases q2 : i = t
      · subst q2; rw [St, l5, us_s]; intro _
        rw [show zl_nk (st i) + 1 - 1 = zl_nk (st i) by omega, zg_ks]
      · rw [So i q q2, us_n q2, us_n q, kio i _ q2]; exact T10 i (by omega)
  · intro i hi
    by_cases q : i = m
    · subst q
      rw [fu_s, fu_s, St, l5, if_neg (by omega)]
      rcases hf with ⟨h0, _, h⟩ | ⟨_, _, h⟩
      · have k0 := fk0.mp h0
        have lk := T10 t ht k0
        obtain ⟨x1, x2, _⟩ := G2 t (zl_nk (st t) - 1) ht (by omega)
        rw [h, lk, nI_clamp (by omega), us_n (by omega), us_s]
      · rw [h, us_s]
    · rw [fu_n q, fu_n q]
      have pt : 0 < i → par i < i ∧ kx i < zl_nk (st (par i)) ∧ kid (par i) (kx i) = i := fun z => G1 i z (by omega)
      -- the last child so far is the one whose link is set
      have lastk : ∀ (h0 : 0 ≤ xfk t), (xlk t).toNatClampNeg = kid t (zl_nk (st t) - 1) := by
        intro h0
        have k0 := fk0.mp h0
        obtain ⟨x1, x2, _⟩ := G2 t (zl_nk (st t) - 1) ht (by omega)
        rw [T10 t ht k0, nI_clamp (by omega)]
      by_cases z : 0 < i
      · obtain ⟨x1, x2, x3⟩ := pt z
        by_cases r : par i = t
        · rw [r, St, l5]
          rw [r] at x2 x3
          have h0 : 0 ≤ xfk t := fk0.mpr (by omega)
          have hn' : nk' = upd (upd xnk m (-1)) (xlk t).toNatClampNeg (nI m) := by
            rcases hf with ⟨_, _, h⟩ | ⟨h, _, _⟩
            · exact h
            · exact absurd h0 h
          rw [hn', lastk h0, if_pos ⟨z, by omega⟩]
          by_cases lst : kx i + 1 = zl_nk (st t)
          · have : i = kid t (zl_nk (st t) - 1) := by rw [← x3, show zl_nk (st t) - 1 = kx i by omega]
            rw [← this, us_s, lst, zg_ks]
          · have ne : i ≠ kid t (zl_nk (st t) - 1) := by
              intro e
              have := (G2 t (zl_nk (st t) - 1) ht (by omega)).2.2.2.1
              rw [← e] at this; omega
            rw [us_n ne, us_n q, T11 i (by omega), r, if_pos ⟨z, by omega⟩, ki0 _ (by omega)]
        · rw [So _ (by omega) r, kio _ _ r]
          have e : nk' i = xnk i := by
            rcases hf with ⟨h0, _, h⟩ | ⟨_, _, h⟩
            · have ne : i ≠ kid t (zl_nk (st t) - 1) := by
                intro e
                have k0 := fk0.mp h0
                have := (G2 t (zl_nk (st t) - 1) ht (by omega)).2.2.1
                rw [← e] at this; exact r this
              rw [h, lastk h0, us_n ne, us_n q]
            · rw [h, us_n q]
          rw [e]; exact T11 i (by omega)
      · have i0 : i = 0 := by omega
        rw [if_neg (fun y => z y.1)]
        have t11 := T11 i (by omega)
        rw [if_neg (fun y => z y.1)] at t11
        rcases hf with ⟨h0, _, h⟩ | ⟨_, _, h⟩
        · have ne : i ≠ kid t (zl_nk (st t) - 1) := by
            intro e
            have k0 := fk0.mp h0
            have := (G2 t (zl_nk (st t) - 1) ht (by omega)).1
            omega
          rw [h, lastk h0, us_n ne, us_n q]; exact t11
        · rw [h, us_n q]; exact t11
  · refine three (F := fun i l => if zl_ow l < zl_nk l then nI (zg_k kid t (zl_nk (st t)) m i (zl_ow l)) else -1) (x := fun i => if i = t then (if zl_ow (st t) < zl_nk (st t) then nI (zg_k kid t (zl_nk (st t)) m t (zl_ow (st t))) else -1) else xow i) ?_ ?_ ?_ ?_
    · intro i hi

      by_cases q : i = t
      · subst q; rw [if_pos rfl]
      · rw [if_neg q, kio i _ q]; exact T12 i hi
    · skip
      rw [if_neg (show ¬ zl_ow (zl_ini p) < zl_nk (zl_ini p) from Nat.lt_irrefl _)]
      rcases ho with ⟨_, h⟩ | ⟨_, h⟩
      · rw [h, us_s]
      · rw [h, us_n (fun z => tm z.symm), us_s]
    · skip
      rw [l5, l6, if_pos (by omega)]
      rcases ho with ⟨h0, h⟩ | ⟨h0, h⟩
      · have q := ow0.mp h0
        rw [h, us_n tm, T12 t ht, if_pos q, ki0 _ q]
      · have q : zl_ow (st t) = zl_nk (st t) := by
          rcases Nat.lt_or_ge (zl_ow (st t)) (zl_nk (st t)) with z | z
          · exact absurd (ow0.mpr z) h0
          · omega
        rw [h, us_s, q, zg_ks]
    · intro i a b

      rw [if_neg b]
      rcases ho with ⟨_, h⟩ | ⟨_, h⟩
      · rw [h, us_n a]
      · rw [h, us_n b, us_n a]
  · refine three (F := fun _ l => nI (zl_nk l)) T13 ?_ ?_ ?_
    · rw [us_n (fun z => tm z.symm), us_s]; rfl
    · rw [us_s, us_n tm, T13 t ht, nI_1]; show _ = nI (zl_nk l'); rw [l5]
    · intro i a b; rw [us_n b, us_n a]
  · refine three (F := fun _ l => nI (zl_ow l)) T14 ?_ ?_ ?_
    · rw [us_s]; rfl
    · rw [us_n tm, T14 t ht]; show _ = nI (zl_ow l'); rw [l6]
    · intro i a b; rw [us_n a]
  · refine three (F := fun _ l => zl_rs l) T15 ?_ ?_ ?_
    · rw [us_s]; rfl
    · rw [us_n tm, T15 t ht]; show _ = zl_rs l'; rw [l7]
    · intro i a b; rw [us_n a]
  · refine three (F := fun _ l => zl_ck l) T16 ?_ ?_ ?_
    · rw [us_s, us_s, T16 t ht]; show _ = p.2.2; rw [p3]
    · rw [us_n tm, us_s, T16 t ht]; show _ = zl_ck l'; rw [l4]
    · intro i a b; rw [us_n a, us_n b]
  · refine three (F := fun _ l => if zl_dn l = true then 1 else 0) T17 ?_ ?_ ?_
    · rw [us_s]; rfl
    · rw [us_n tm, T17 t ht]; show _ = if zl_dn l' = true then 1 else 0; rw [l8, hd]
    · intro i a b; rw [us_n a]
  · refine three (F := fun _ l => nI (zl_pc l)) T18 ?_ ?_ ?_
    · rw [us_s]; rfl
    · rw [us_n tm, us_s, ← hP, T18 t ht, nI_1]; show _ = nI (zl_pc l'); rw [l2]
    · intro i a b; rw [us_n a, us_n b]
  · intro i r hi hr
    by_cases q : i = m
    · subst q
      rw [Sm]
      show _ = fu (fun _ => 0) 0 p.2.1 r
      have rc : r = 0 ∨ r = 1 ∨ r = 2 ∨ r = 3 := by omega
      rcases rc with rfl | rfl | rfl | rfl
      · rw [us_n (by omega), us_n (by omega), us_n (by omega)]
        exact (us_s (f := xrg) (k := 4 * i) (x := A)).trans (by rw [fu_s, p2])
      · rw [us_n (by omega), us_n (by omega), us_s, fu_n (by decide)]
      · rw [us_n (by omega), us_s, fu_n (by decide)]
      · rw [us_s, fu_n (by decide)]
    · rw [us_n (by omega), us_n (by omega), us_n (by omega), us_n (by omega), T19 i r (by omega) hr]
      by_cases q2 : i = t
      · subst q2; rw [St, l3]
      · rw [So i q q2]
end
end
section
/-! what each line does to a task; the component's arrays after a counted line -/
section
variable {g : zl_G} {o : Nat → zl_O} {l : zl_T}
theorem zl_xe (hd : zl_dn l = false) (h0 : zl_e g l) : zl_nx g o l = (zl_pr l, zl_pc l, zl_rg l, zl_mx o (zl_ck l) (zl_ow l) (zl_nk l - zl_ow l), zl_nk l, zl_ow l, 0, true, zl_sp l, zl_tl l, zl_cn l, zl_nl l) := by
  unfold zl_e at h0
  unfold zl_nx
  rw [if_neg (by rw [hd]; decide), if_pos h0]
theorem zl_x9 (hd : zl_dn l = false) (h0 : ¬ zl_e g l) (h : zl_op g l = 9) : zl_nx g o l = (zl_pr l, zl_pc l + 1, fu (zl_rg l) (zl_la g l) (zl_fo o (zl_lb g l) (zl_rg l (zl_la g l)) (zl_ow l) (zl_nk l - zl_ow l)), zl_mx o (zl_ck l) (zl_ow l) (zl_nk l - zl_ow l) + 1, zl_nk l, zl_nk l, zl_rs l, false, zl_sp l, zl_tl l, zl_k l, zl_nl l + 1) := by
  unfold zl_e at h0
  unfold zl_nx
  rw [if_neg (by rw [hd]; decide), if_neg h0, if_pos h]
theorem zl_x11 (hd : zl_dn l = false) (h0 : ¬ zl_e g l) (h : zl_op g l = 11) : zl_nx g o l = (zl_pr l, zl_pc l, zl_rg l, zl_mx o (zl_ck l) (zl_ow l) (zl_nk l - zl_ow l) + 1, zl_nk l, zl_ow l, zl_rg l (zl_la g l), true, zl_sp l, zl_tl l, zl_k l, zl_nl l + 1) := by
  unfold zl_e at h0
  unfold zl_nx
  rw [if_neg (by rw [hd]; decide), if_neg h0, if_neg (by rw [h]; decide), if_pos h]
theorem zl_x8 (hd : zl_dn l = false) (h0 : ¬ zl_e g l) (h : zl_op g l = 8) : zl_nx g o l = (zl_pr l, zl_pc l + 1, zl_rg l, zl_ck l + 1, zl_nk l + 1, zl_ow l, zl_rs l, false, fu (zl_sp l) (zl_nk l) (zl_la g l, zl_rg l (zl_lr g l), zl_ck l + 1), zl_tl l, zl_k l, zl_nl l + 1) := by
  unfold zl_e at h0
  unfold zl_nx
  rw [if_neg (by rw [hd]; decide), if_neg h0, if_neg (by rw [h]; decide), if_neg (by rw [h]; decide), if_pos h]
theorem zl_x10 (hd : zl_dn l = false) (h0 : ¬ zl_e g l) (h : zl_op g l = 10) : zl_nx g o l = (zl_pr l, zl_pc l + 1, zl_rg l, zl_ck l + 1, zl_nk l, zl_ow l, zl_rs l, false, zl_sp l, fu (zl_tl l) (zl_la g l) (zl_tl l (zl_la g l) + zl_rg l (zl_lr g l)), zl_k l, zl_nl l + 1) := by
  unfold zl_e at h0
  unfold zl_nx
  rw [if_neg (by rw [hd]; decide), if_neg h0, if_neg (by rw [h]; decide), if_neg (by rw [h]; decide), if_neg (by rw [h]; decide), if_pos h]
/-- IFLT, IFEQ: whether the next line is left out -/
theorem zl_x6 (hd : zl_dn l = false) (h0 : ¬ zl_e g l) (h : zl_op g l = 6 ∨ zl_op g l = 7) {n : Nat} (hn : n = if (zl_op g l = 6 ∧ zl_rg l (zl_la g l) < zl_lb g l) ∨ (zl_op g l = 7 ∧ zl_rg l (zl_la g l) = zl_lb g l) then zl_pc l + 1 else zl_pc l + 2) : zl_nx g o l = (zl_pr l, n, zl_rg l, zl_ck l + 1, zl_nk l, zl_ow l, zl_rs l, false, zl_sp l, zl_tl l, zl_k l, zl_nl l + 1) := by
  unfold zl_e at h0
  unfold zl_nx
  rcases h with h | h
  · rw [if_neg (by rw [hd]; decide), if_neg h0, if_neg (by rw [h]; decide), if_neg (by rw [h]; decide), if_neg (by rw [h]; decide), if_neg (by rw [h]; decide), if_pos h]
    by_cases q : zl_rg l (zl_la g l) < zl_lb g l
    · rw [if_pos q, hn, if_pos (Or.inl ⟨h, q⟩)]
    · rw [if_neg q, hn, if_neg]
      rintro (⟨_, z⟩ | ⟨z, _⟩)
      · exact q z
      · rw [h] at z; exact absurd z (by decide)
  · rw [if_neg (by rw [hd]; decide), if_neg h0, if_neg (by rw [h]; decide), if_neg (by rw [h]; decide), if_neg (by rw [h]; decide), if_neg (by rw [h]; decide), if_neg (by rw [h]; decide), if_pos h]
    by_cases q : zl_rg l (zl_la g l) = zl_lb g l
    · rw [if_pos q, hn, if_pos (Or.inr ⟨h, q⟩)]
    · rw [if_neg q, hn, if_neg]
      rintro (⟨z, _⟩ | ⟨_, z⟩)
      · rw [h] at z; exact absurd z (by decide)
      · exact q z
theorem zl_xc (hd : zl_dn l = false) (h0 : ¬ zl_e g l) {j : Nat} (hj : j ≤ 5) (h : zl_op g l = nI j) : zl_nx g o l = (zl_pr l, zl_pc l + 1, fu (zl_rg l) (zl_la g l) (zl_cv (zl_op g l) (zl_rg l (zl_la g l)) (zl_rg l (zl_lr g l)) (zl_lb g l)), zl_ck l + 1, zl_nk l, zl_ow l, zl_rs l, false, zl_sp l, zl_tl l, zl_k l, zl_nl l + 1) := by
  unfold zl_e at h0
  have n : ∀ k : Nat, 5 < k → k < 100 → ¬ zl_op g l = nI k := by
    intro k h1 h2 z
    rw [h] at z
    have := (nI_eq (by omega) (by omega)).mp z; omega
  unfold zl_nx
  rw [if_neg (by rw [hd]; decide), if_neg h0, if_neg (show ¬ zl_op g l = 9 from n 9 (by omega) (by omega)), if_neg (show ¬ zl_op g l = 11 from n 11 (by omega) (by omega)), if_neg (show ¬ zl_op g l = 8 from n 8 (by omega) (by omega)), if_neg (show ¬ zl_op g l = 10 from n 10 (by omega) (by omega)), if_neg (show ¬ zl_op g l = 6 from n 6 (by omega) (by omega)), if_neg (show ¬ zl_op g l = 7 from n 7 (by omega) (by omega))]
/-- what the program's line is like -/
theorem zl_lin (G : zl_pg g) (hp : zl_pr l < 4) (h0 : ¬ zl_e g l) : zl_pc l < 10 ∧ zl_at l < 40 ∧ (∃ j, j ≤ 11 ∧ zl_op g l = nI j) ∧ (g.2.1 (zl_at l) = nI (zl_la g l) ∧ zl_la g l < 4) ∧ ((zl_op g l = 1 ∨ zl_op g l = 2 ∨ zl_op g l = 3 ∨ zl_op g l = 4 ∨ zl_op g l = 8 ∨ zl_op g l = 10) → g.2.2.1 (zl_at l) = nI (zl_lr g l) ∧ zl_lr g l < 4) := by
  obtain ⟨a1, a2⟩ := G _ hp
  unfold zl_e at h0
  obtain ⟨b1, ⟨a, b2, b3⟩, b4⟩ := a2 (zl_pc l) (by omega)
  refine ⟨by omega, by unfold zl_at; omega, b1, ?_, fun z => ?_⟩
  · have e : zl_la g l = a := by
      unfold zl_la zl_at; rw [b3, nI_clamp (by omega)]
    rw [e]; exact ⟨b3, b2⟩
  · obtain ⟨b, c1, c2⟩ := b4 z
    have e : zl_lr g l = b := by
      unfold zl_lr zl_at; rw [c2, nI_clamp (by omega)]
    rw [e]; exact ⟨c2, c1⟩
end
section
variable {m : Nat} {st : Nat → zl_T} {par kx : Nat → Nat} {kid : Nat → Nat → Nat} {pm : Nat → zl_P} {fmd fwd : Int32} {xce xlc xpr xar xpa xfk xlk xnk xow xki xfo xre xbe xck xru xpc xrg : Nat → Int32}
theorem i32_s (a : Int32) (n : Nat) : a + 1 + nI n = a + nI (n + 1) := by
  rw [nI_succ, Int32.add_assoc, Int32.add_comm 1]
theorem xt_lc {l : zl_T} {i : Nat} : upd xlc (zl_at l) (xlc (zl_at l) + 1) i + nI (zl_cn l i) = xlc i + nI (zl_k l i) := by
  unfold zl_k
  by_cases q : i = zl_at l
  · subst q; rw [us_s, fu_s]; exact i32_s _ _
  · rw [us_n q, fu_n q]
theorem xt_rg {l : zl_T} {t a : Nat} {v : Int32} (h : ∀ r, r < 4 → xrg (4 * t + r) = zl_rg l r) : ∀ r, r < 4 → upd xrg (4 * t + a) v (4 * t + r) = fu (zl_rg l) a v r := by
  intro r hr
  by_cases q : r = a
  · subst q; rw [us_s, fu_s]
  · rw [us_n (by omega), fu_n q]; exact h r hr
theorem xt_rg2 {t a : Nat} {v : Int32} (ha : a < 4) : ∀ t' r, t' ≠ t → r < 4 → upd xrg (4 * t + a) v (4 * t' + r) = xrg (4 * t' + r) := fun t' r h1 h2 => us_n (by omega)
theorem xt_ce {l : zl_T} {a : Nat} {v : Int32} : ∀ c, c < 4 → upd xce a (xce a + v) c + zl_tl l c = xce c + fu (zl_tl l) a (zl_tl l a + v) c := by
  intro c _
  by_cases q : c = a
  · subst q; rw [us_s, fu_s, Int32.add_assoc, Int32.add_comm v]
  · rw [us_n q, fu_n q]
end
end
section
/-! the end of a task -/
section
theorem zg_all {g : zl_G} {m : Nat} {st : Nat → zl_T} {par kx : Nat → Nat} {kid : Nat → Nat → Nat} {pm : Nat → zl_P} (G : zg_G g m st par kx kid pm) (h : zl_dn (st 0) = true) : ∀ i, i < m → zl_dn (st i) = true := by
  have key : ∀ n i, i < n → i < m → zl_dn (st i) = true := by
    intro n
    induction n with
    | zero => intro i h1; omega
    | succ n ih =>
      intro i h1 h2
      rcases Nat.eq_zero_or_pos i with z | z
      · rw [z]; exact h
      · obtain ⟨a1, a2, a3⟩ := G.2.1 i z h2
        have d := ih (par i) (by omega) (by omega)
        obtain ⟨o, j, e, ho⟩ := G.2.2.2.2 (par i) (by omega)
        have := (ho (kx i) (by unfold zl_cs; rw [if_pos d]; exact a2)).1
        rw [a3] at this; exact this
  exact fun i hi => key (i + 1) i (by omega) hi
theorem zl_foc1 {o o' : Nat → zl_O} {f : Int32} : ∀ {n i : Nat} {c : Int32}, (∀ k, i ≤ k → k < i + n → (o k).1 = (o' k).1) → zl_fo o f c i n = zl_fo o' f c i n
  | 0, _, _, _ => rfl
  | n + 1, i, c, h => by
    unfold zl_fo
    rw [h i (Nat.le_refl _) (by omega)]
    exact zl_foc1 (fun k h1 h2 => h k (by omega) (by omega))
theorem zl_mxc1 {o o' : Nat → zl_O} : ∀ {n i : Nat} {c : Int32}, (∀ k, i ≤ k → k < i + n → (o k).2 = (o' k).2) → zl_mx o c i n = zl_mx o' c i n
  | 0, _, _, _ => rfl
  | n + 1, i, c, h => by
    unfold zl_mx
    rw [h i (Nat.le_refl _) (by omega)]
    exact zl_mxc1 (fun k h1 h2 => h k (by omega) (by omega))
variable {wc rg m : Nat} {par : Nat → Nat} {dn wt : Nat → Prop} {mu : Nat} {xtop xbot xslo xph xcu xhe xit xst xsb xpv xjn xbl : Nat → Int32}
/-- at COMPLETE all children have ended -/
theorem xs_kids (h : xs_S wc rg m par dn wt mu xtop xbot xslo xph xcu xhe xit xst xsb xpv xjn xbl) {w : Nat} (hw : w < wc) (hp : dF xph w = 17) : (∀ c, 0 < c → c < m → par c = dN (xcu w) → dn c) ∧ wt (dN (xcu w)) ∧ ¬ dn (dN (xcu w)) := by
  obtain ⟨vb, tb, hn, lo, D, J, E, M, Pm⟩ := h
  refine ⟨fun c h1 h2 h3 => ?_, E.2.2.2.2.2.1 w hw (Or.inr hp), E.2.2.2.1 w hw (by omega)⟩
  exact E.2.1 c h2 (jk_zero (J.2.2.2.2.2.1 w hw (by omega)) h2 h1 h3)
end
end
section
/-! the component's turn, one lemma a branch: pop, steal, push -/
section
variable {post : SX → Prop} {k0 k1 k2 k3 k4 k5 k6 k7 k8 k9 k10 k11 k12 k13 k14 k15 k16 k17 k18 k19 fwc frg flm fst fgv fov ffl fmd fwd : Int32} {xlo xla xlb xll xce xlc xtop xbot xslo xaim xph xcu xhe xit xst xsb xpv xtr xpr xar xpa xfk xlk xnk xow xki xfo xre xbe xck xru xpc xjn xbl xrg xod xnu : Nat → Int32} {p0 : Int32}
theorem xw_slot {post : Int32 → Prop} {q0 q1 r : Int32} (hr : ¬ frg = 0) (e : q0 * 8 + (q1 - q1 / frg * frg) = r) (h : post r) : wpX_slotAt post (k0, k1, k2, k3, k4, k5, k6, k7, k8, k9, k10, k11, k12, k13, k14, k15, k16, k17, k18, k19, fwc, frg, flm, fst, fgv, fov, ffl, fmd, fwd, xlo, xla, xlb, xll, xce, xlc, xtop, xbot, xslo, xaim, xph, xcu, xhe, xit, xst, xsb, xpv, xtr, xpr, xar, xpa, xfk, xlk, xnk, xow, xki, xfo, xre, xbe, xck, xru, xpc, xjn, xbl, xrg, xod, xnu) q0 q1 := by
  subst e; exact ⟨hr, h⟩
theorem xw_over (ho : ¬ fov = 0) (K : post (k0, k1, k2, k3, k4, k5, k6, k7, k8, k9, k10, k11, k12, k13, k14, k15, k16, k17, k18, k19, fwc, frg, flm, fst, fgv, fov, ffl, fmd, fwd, xlo, xla, xlb, xll, xce, xlc, xtop, xbot, xslo, xaim, xph, xcu, xhe, xit, xst, xsb, xpv, xtr, xpr, xar, xpa, xfk, xlk, xnk, xow, xki, xfo, xre, xbe, xck, xru, xpc, xjn, xbl, xrg, xod, xnu)) : wpX_step post (k0, k1, k2, k3, k4, k5, k6, k7, k8, k9, k10, k11, k12, k13, k14, k15, k16, k17, k18, k19, fwc, frg, flm, fst, fgv, fov, ffl, fmd, fwd, xlo, xla, xlb, xll, xce, xlc, xtop, xbot, xslo, xaim, xph, xcu, xhe, xit, xst, xsb, xpv, xtr, xpr, xar, xpa, xfk, xlk, xnk, xow, xki, xfo, xre, xbe, xck, xru, xpc, xjn, xbl, xrg, xod, xnu) p0 := br_f ho K
theorem xw_take {q : Int32} (hw : vp_in p0 4) (K : post (k0, k1, k2, k3, k4, k5, k6, k7, k8, k9, k10, k11, k12, k13, k14, k15, k16, k17, k18, k19, fwc, frg, flm, fst, fgv, fov, ffl, fmd, fwd, xlo, xla, xlb, xll, xce, xlc, xtop, xbot, xslo, xaim, upd xph p0.toNatClampNeg 14, upd xcu p0.toNatClampNeg q, xhe, upd xit p0.toNatClampNeg (-1), xst, xsb, xpv, xtr, xpr, xar, xpa, xfk, xlk, xnk, xow, xki, xfo, xre, xbe, xck, xru, xpc, xjn, xbl, xrg, xod, xnu)) : wpX_take post (k0, k1, k2, k3, k4, k5, k6, k7, k8, k9, k10, k11, k12, k13, k14, k15, k16, k17, k18, k19, fwc, frg, flm, fst, fgv, fov, ffl, fmd, fwd, xlo, xla, xlb, xll, xce, xlc, xtop, xbot, xslo, xaim, xph, xcu, xhe, xit, xst, xsb, xpv, xtr, xpr, xar, xpa, xfk, xlk, xnk, xow, xki, xfo, xre, xbe, xck, xru, xpc, xjn, xbl, xrg, xod, xnu) p0 q := ⟨hw, nm_e ⟨hw, nm_e ⟨hw, nm_e K⟩⟩⟩
theorem xw_begin (hw : vp_in p0 4) (K : post (k0, k1, k2, k3, k4, k5, k6, k7, k8, k9, k10, k11, k12, k13, k14, k15, k16, k17, k18, k19, fwc, frg, flm, fst, fgv, fov, ffl, fmd, fwd, xlo, xla, xlb, xll, xce, xlc, xtop, xbot, xslo, xaim, upd xph p0.toNatClampNeg 6, xcu, xhe, xit, xst, xsb, upd xpv p0.toNatClampNeg (xaim p0.toNatClampNeg), upd xtr p0.toNatClampNeg 0, xpr, xar, xpa, xfk, xlk, xnk, xow, xki, xfo, xre, xbe, xck, xru, xpc, xjn, xbl, xrg, xod, xnu)) : wpX_beginSteal post (k0, k1, k2, k3, k4, k5, k6, k7, k8, k9, k10, k11, k12, k13, k14, k15, k16, k17, k18, k19, fwc, frg, flm, fst, fgv, fov, ffl, fmd, fwd, xlo, xla, xlb, xll, xce, xlc, xtop, xbot, xslo, xaim, xph, xcu, xhe, xit, xst, xsb, xpv, xtr, xpr, xar, xpa, xfk, xlk, xnk, xow, xki, xfo, xre, xbe, xck, xru, xpc, xjn, xbl, xrg, xod, xnu) p0 := ⟨hw, ⟨hw, nm_e ⟨hw, nm_e ⟨hw, nm_e K⟩⟩⟩⟩
theorem xw_pop0 (ho : fov = 0) (hw : vp_in p0 4) (hp : xph p0.toNatClampNeg = 0) (K : post (k0, k1, k2, k3, k4, k5, k6, k7, k8, k9, k10, k11, k12, k13, k14, k15, k16, k17, k18, k19, fwc, frg, flm, fst, fgv, fov, ffl, fmd, fwd, xlo, xla, xlb, xll, xce, xlc, xtop, xbot, xslo, xaim, upd xph p0.toNatClampNeg 1, xcu, xhe, xit, xst, upd xsb p0.toNatClampNeg (xbot p0.toNatClampNeg - 1), xpv, xtr, xpr, xar, xpa, xfk, xlk, xnk, xow, xki, xfo, xre, xbe, xck, xru, xpc, xjn, xbl, xrg, xod, xnu)) : wpX_step post (k0, k1, k2, k3, k4, k5, k6, k7, k8, k9, k10, k11, k12, k13, k14, k15, k16, k17, k18, k19, fwc, frg, flm, fst, fgv, fov, ffl, fmd, fwd, xlo, xla, xlb, xll, xce, xlc, xtop, xbot, xslo, xaim, xph, xcu, xhe, xit, xst, xsb, xpv, xtr, xpr, xar, xpa, xfk, xlk, xnk, xow, xki, xfo, xre, xbe, xck, xru, xpc, xjn, xbl, xrg, xod, xnu) p0 :=
  br_t ho ⟨hw, nm_r (e' := 0) hp (br_f (by decide) (br_f (by decide) (br_f (by decide) (br_t rfl ⟨hw, ⟨hw, nm_e ⟨hw, nm_e K⟩⟩⟩))))⟩
theorem xw_pop1 (ho : fov = 0) (hw : vp_in p0 4) (hp : xph p0.toNatClampNeg = 1) (K : post (k0, k1, k2, k3, k4, k5, k6, k7, k8, k9, k10, k11, k12, k13, k14, k15, k16, k17, k18, k19, fwc, frg, flm, fst, fgv, fov, ffl, fmd, fwd, xlo, xla, xlb, xll, xce, xlc, xtop, upd xbot p0.toNatClampNeg (xsb p0.toNatClampNeg), xslo, xaim, upd xph p0.toNatClampNeg 2, xcu, xhe, xit, xst, xsb, xpv, xtr, xpr, xar, xpa, xfk, xlk, xnk, xow, xki, xfo, xre, xbe, xck, xru, xpc, xjn, xbl, xrg, xod, xnu)) : wpX_step post (k0, k1, k2, k3, k4, k5, k6, k7, k8, k9, k10, k11, k12, k13, k14, k15, k16, k17, k18, k19, fwc, frg, flm, fst, fgv, fov, ffl, fmd, fwd, xlo, xla, xlb, xll, xce, xlc, xtop, xbot, xslo, xaim, xph, xcu, xhe, xit, xst, xsb, xpv, xtr, xpr, xar, xpa, xfk, xlk, xnk, xow, xki, xfo, xre, xbe, xck, xru, xpc, xjn, xbl, xrg, xod, xnu) p0 :=
  br_t ho ⟨hw, nm_r (e' := 1) hp (br_f (by decide) (br_f (by decide) (br_f (by decide) (br_f (by decide) (br_t rfl ⟨hw, ⟨hw, nm_e ⟨hw, nm_e K⟩⟩⟩)))))⟩
theorem xw_pop2a (ho : fov = 0) (hw : vp_in p0 4) (hp : xph p0.toNatClampNeg = 2) (hc : xtop p0.toNatClampNeg ≤ xsb p0.toNatClampNeg) (K : post (k0, k1, k2, k3, k4, k5, k6, k7, k8, k9, k10, k11, k12, k13, k14, k15, k16, k17, k18, k19, fwc, frg, flm, fst, fgv, fov, ffl, fmd, fwd, xlo, xla, xlb, xll, xce, xlc, xtop, xbot, xslo, xaim, upd xph p0.toNatClampNeg 3, xcu, xhe, upd xit p0.toNatClampNeg (-1), upd xst p0.toNatClampNeg (xtop p0.toNatClampNeg), xsb, xpv, xtr, xpr, xar, xpa, xfk, xlk, xnk, xow, xki, xfo, xre, xbe, xck, xru, xpc, xjn, xbl, xrg, xod, xnu)) : wpX_step post (k0, k1, k2, k3, k4, k5, k6, k7, k8, k9, k10, k11, k12, k13, k14, k15, k16, k17, k18, k19, fwc, frg, flm, fst, fgv, fov, ffl, fmd, fwd, xlo, xla, xlb, xll, xce, xlc, xtop, xbot, xslo, xaim, xph, xcu, xhe, xit, xst, xsb, xpv, xtr, xpr, xar, xpa, xfk, xlk, xnk, xow, xki, xfo, xre, xbe, xck, xru, xpc, xjn, xbl, xrg, xod, xnu) p0 :=
  br_t ho ⟨hw, nm_r (e' := 2) hp (br_f (by decide) (br_f (by decide) (br_f (by decide) (br_f (by decide) (br_f (by decide) (br_t rfl ⟨hw, ⟨hw, nm_e ⟨hw, nm_e ⟨hw, ⟨hw, br_t (by rw [us_s]; exact hc) ⟨hw, nm_e K⟩⟩⟩⟩⟩⟩))))))⟩
theorem xw_pop2b (ho : fov = 0) (hw : vp_in p0 4) (hp : xph p0.toNatClampNeg = 2) (hc : ¬ xtop p0.toNatClampNeg ≤ xsb p0.toNatClampNeg) (K : post (k0, k1, k2, k3, k4, k5, k6, k7, k8, k9, k10, k11, k12, k13, k14, k15, k16, k17, k18, k19, fwc, frg, flm, fst, fgv, fov, ffl, fmd, fwd, xlo, xla, xlb, xll, xce, xlc, xtop, xbot, xslo, xaim, upd xph p0.toNatClampNeg 5, xcu, xhe, upd xit p0.toNatClampNeg (-1), upd xst p0.toNatClampNeg (xtop p0.toNatClampNeg), xsb, xpv, xtr, xpr, xar, xpa, xfk, xlk, xnk, xow, xki, xfo, xre, xbe, xck, xru, xpc, xjn, xbl, xrg, xod, xnu)) : wpX_step post (k0, k1, k2, k3, k4, k5, k6, k7, k8, k9, k10, k11, k12, k13, k14, k15, k16, k17, k18, k19, fwc, frg, flm, fst, fgv, fov, ffl, fmd, fwd, xlo, xla, xlb, xll, xce, xlc, xtop, xbot, xslo, xaim, xph, xcu, xhe, xit, xst, xsb, xpv, xtr, xpr, xar, xpa, xfk, xlk, xnk, xow, xki, xfo, xre, xbe, xck, xru, xpc, xjn, xbl, xrg, xod, xnu) p0 :=
  br_t ho ⟨hw, nm_r (e' := 2) hp (br_f (by decide) (br_f (by decide) (br_f (by decide) (br_f (by decide) (br_f (by decide) (br_t rfl ⟨hw, ⟨hw, nm_e ⟨hw, nm_e ⟨hw, ⟨hw, br_f (by rw [us_s]; exact hc) ⟨hw, nm_e K⟩⟩⟩⟩⟩⟩))))))⟩
theorem xw_pop3a {r : Int32} (ho : fov = 0) (hw : vp_in p0 4) (hr : ¬ frg = 0) (e : p0 * 8 + (xsb p0.toNatClampNeg - xsb p0.toNatClampNeg / frg * frg) = r) (hs : vp_in r 32) (hp : xph p0.toNatClampNeg = 3) (hc : xsb p0.toNatClampNeg ≤ xst p0.toNatClampNeg) (K : post (k0, k1, k2, k3, k4, k5, k6, k7, k8, k9, k10, k11, k12, k13, k14, k15, k16, k17, k18, k19, fwc, frg, flm, fst, fgv, fov, ffl, fmd, fwd, xlo, xla, xlb, xll, xce, xlc, xtop, xbot, xslo, xaim, upd xph p0.toNatClampNeg 4, xcu, xhe, upd xit p0.toNatClampNeg (xslo r.toNatClampNeg), xst, xsb, xpv, xtr, xpr, xar, xpa, xfk, xlk, xnk, xow, xki, xfo, xre, xbe, xck, xru, xpc, xjn, xbl, xrg, xod, xnu)) : wpX_step post (k0, k1, k2, k3, k4, k5, k6, k7, k8, k9, k10, k11, k12, k13, k14, k15, k16, k17, k18, k19, fwc, frg, flm, fst, fgv, fov, ffl, fmd, fwd, xlo, xla, xlb, xll, xce, xlc, xtop, xbot, xslo, xaim, xph, xcu, xhe, xit, xst, xsb, xpv, xtr, xpr, xar, xpa, xfk, xlk, xnk, xow, xki, xfo, xre, xbe, xck, xru, xpc, xjn, xbl, xrg, xod, xnu) p0 :=
  br_t ho ⟨hw, nm_r (e' := 3) hp (br_f (by decide) (br_f (by decide) (br_f (by decide) (br_f (by decide) (br_f (by decide) (br_f (by decide) (br_t rfl ⟨hw, xw_slot hr e ⟨hs, ⟨hw, nm_e ⟨hw, ⟨hw, br_t hc ⟨hw, nm_e K⟩⟩⟩⟩⟩⟩)))))))⟩
theorem xw_pop3b {r : Int32} (ho : fov = 0) (hw : vp_in p0 4) (hr : ¬ frg = 0) (e : p0 * 8 + (xsb p0.toNatClampNeg - xsb p0.toNatClampNeg / frg * frg) = r) (hs : vp_in r 32) (hp : xph p0.toNatClampNeg = 3) (hc : ¬ xsb p0.toNatClampNeg ≤ xst p0.toNatClampNeg) (K : post (k0, k1, k2, k3, k4, k5, k6, k7, k8, k9, k10, k11, k12, k13, k14, k15, k16, k17, k18, k19, fwc, frg, flm, fst, fgv, fov, ffl, fmd, fwd, xlo, xla, xlb, xll, xce, xlc, xtop, xbot, xslo, xaim, upd xph p0.toNatClampNeg 14, upd xcu p0.toNatClampNeg (upd xit p0.toNatClampNeg (xslo r.toNatClampNeg) p0.toNatClampNeg), xhe, upd (upd xit p0.toNatClampNeg (xslo r.toNatClampNeg)) p0.toNatClampNeg (-1), xst, xsb, xpv, xtr, xpr, xar, xpa, xfk, xlk, xnk, xow, xki, xfo, xre, xbe, xck, xru, xpc, xjn, xbl, xrg, xod, xnu)) : wpX_step post (k0, k1, k2, k3, k4, k5, k6, k7, k8, k9, k10, k11, k12, k13, k14, k15, k16, k17, k18, k19, fwc, frg, flm, fst, fgv, fov, ffl, fmd, fwd, xlo, xla, xlb, xll, xce, xlc, xtop, xbot, xslo, xaim, xph, xcu, xhe, xit, xst, xsb, xpv, xtr, xpr, xar, xpa, xfk, xlk, xnk, xow, xki, xfo, xre, xbe, xck, xru, xpc, xjn, xbl, xrg, xod, xnu) p0 :=
  br_t ho ⟨hw, nm_r (e' := 3) hp (br_f (by decide) (br_f (by decide) (br_f (by decide) (br_f (by decide) (br_f (by decide) (br_f (by decide) (br_t rfl ⟨hw, xw_slot hr e ⟨hs, ⟨hw, nm_e ⟨hw, ⟨hw, br_f hc ⟨hw, xw_take hw K⟩⟩⟩⟩⟩⟩)))))))⟩
theorem xw_pop4a (ho : fov = 0) (hw : vp_in p0 4) (hp : xph p0.toNatClampNeg = 4) (hc : xtop p0.toNatClampNeg = xst p0.toNatClampNeg) (K : post (k0, k1, k2, k3, k4, k5, k6, k7, k8, k9, k10, k11, k12, k13, k14, k15, k16, k17, k18, k19, fwc, frg, flm, fst, fgv, fov, ffl, fmd, fwd, xlo, xla, xlb, xll, xce, xlc, upd xtop p0.toNatClampNeg (xst p0.toNatClampNeg + 1), xbot, xslo, xaim, upd xph p0.toNatClampNeg 5, xcu, xhe, xit, xst, xsb, xpv, xtr, xpr, xar, xpa, xfk, xlk, xnk, xow, xki, xfo, xre, xbe, xck, xru, xpc, xjn, xbl, xrg, xod, xnu)) : wpX_step post (k0, k1, k2, k3, k4, k5, k6, k7, k8, k9, k10, k11, k12, k13, k14, k15, k16, k17, k18, k19, fwc, frg, flm, fst, fgv, fov, ffl, fmd, fwd, xlo, xla, xlb, xll, xce, xlc, xtop, xbot, xslo, xaim, xph, xcu, xhe, xit, xst, xsb, xpv, xtr, xpr, xar, xpa, xfk, xlk, xnk, xow, xki, xfo, xre, xbe, xck, xru, xpc, xjn, xbl, xrg, xod, xnu) p0 :=
  br_t ho ⟨hw, nm_r (e' := 4) hp (br_f (by decide) (br_f (by decide) (br_f (by decide) (br_f (by decide) (br_f (by decide) (br_f (by decide) (br_f (by decide) (br_t rfl ⟨hw, ⟨hw, br_t hc ⟨hw, ⟨hw, nm_e ⟨hw, nm_e K⟩⟩⟩⟩⟩))))))))⟩
theorem xw_pop4b (ho : fov = 0) (hw : vp_in p0 4) (hp : xph p0.toNatClampNeg = 4) (hc : ¬ xtop p0.toNatClampNeg = xst p0.toNatClampNeg) (K : post (k0, k1, k2, k3, k4, k5, k6, k7, k8, k9, k10, k11, k12, k13, k14, k15, k16, k17, k18, k19, fwc, frg, flm, fst, fgv, fov, ffl, fmd, fwd, xlo, xla, xlb, xll, xce, xlc, xtop, xbot, xslo, xaim, upd xph p0.toNatClampNeg 5, xcu, xhe, upd xit p0.toNatClampNeg (-1), xst, xsb, xpv, xtr, xpr, xar, xpa, xfk, xlk, xnk, xow, xki, xfo, xre, xbe, xck, xru, xpc, xjn, xbl, xrg, xod, xnu)) : wpX_step post (k0, k1, k2, k3, k4, k5, k6, k7, k8, k9, k10, k11, k12, k13, k14, k15, k16, k17, k18, k19, fwc, frg, flm, fst, fgv, fov, ffl, fmd, fwd, xlo, xla, xlb, xll, xce, xlc, xtop, xbot, xslo, xaim, xph, xcu, xhe, xit, xst, xsb, xpv, xtr, xpr, xar, xpa, xfk, xlk, xnk, xow, xki, xfo, xre, xbe, xck, xru, xpc, xjn, xbl, xrg, xod, xnu) p0 :=
  br_t ho ⟨hw, nm_r (e' := 4) hp (br_f (by decide) (br_f (by decide) (br_f (by decide) (br_f (by decide) (br_f (by decide) (br_f (by decide) (br_f (by decide) (br_t rfl ⟨hw, ⟨hw, br_f hc ⟨hw, nm_e ⟨hw, nm_e K⟩⟩⟩⟩))))))))⟩
theorem xw_pop5a (ho : fov = 0) (hw : vp_in p0 4) (hp : xph p0.toNatClampNeg = 5) (hc : xit p0.toNatClampNeg < 0) (K : post (k0, k1, k2, k3, k4, k5, k6, k7, k8, k9, k10, k11, k12, k13, k14, k15, k16, k17, k18, k19, fwc, frg, flm, fst, fgv, fov, ffl, fmd, fwd, xlo, xla, xlb, xll, xce, xlc, xtop, upd xbot p0.toNatClampNeg (xsb p0.toNatClampNeg + 1), xslo, xaim, upd xph p0.toNatClampNeg 6, xcu, xhe, xit, xst, xsb, upd xpv p0.toNatClampNeg (xaim p0.toNatClampNeg), upd xtr p0.toNatClampNeg 0, xpr, xar, xpa, xfk, xlk, xnk, xow, xki, xfo, xre, xbe, xck, xru, xpc, xjn, xbl, xrg, xod, xnu)) : wpX_step post (k0, k1, k2, k3, k4, k5, k6, k7, k8, k9, k10, k11, k12, k13, k14, k15, k16, k17, k18, k19, fwc, frg, flm, fst, fgv, fov, ffl, fmd, fwd, xlo, xla, xlb, xll, xce, xlc, xtop, xbot, xslo, xaim, xph, xcu, xhe, xit, xst, xsb, xpv, xtr, xpr, xar, xpa, xfk, xlk, xnk, xow, xki, xfo, xre, xbe, xck, xru, xpc, xjn, xbl, xrg, xod, xnu) p0 :=
  br_t ho ⟨hw, nm_r (e' := 5) hp (br_f (by decide) (br_f (by decide) (br_t (by decide) ⟨hw, ⟨hw, nm_e ⟨hw, br_t hc (xw_begin hw K)⟩⟩⟩)))⟩
theorem xw_pop5b (ho : fov = 0) (hw : vp_in p0 4) (hp : xph p0.toNatClampNeg = 5) (hc : ¬ xit p0.toNatClampNeg < 0) (K : post (k0, k1, k2, k3, k4, k5, k6, k7, k8, k9, k10, k11, k12, k13, k14, k15, k16, k17, k18, k19, fwc, frg, flm, fst, fgv, fov, ffl, fmd, fwd, xlo, xla, xlb, xll, xce, xlc, xtop, upd xbot p0.toNatClampNeg (xsb p0.toNatClampNeg + 1), xslo, xaim, upd xph p0.toNatClampNeg 14, upd xcu p0.toNatClampNeg (xit p0.toNatClampNeg), xhe, upd xit p0.toNatClampNeg (-1), xst, xsb, xpv, xtr, xpr, xar, xpa, xfk, xlk, xnk, xow, xki, xfo, xre, xbe, xck, xru, xpc, xjn, xbl, xrg, xod, xnu)) : wpX_step post (k0, k1, k2, k3, k4, k5, k6, k7, k8, k9, k10, k11, k12, k13, k14, k15, k16, k17, k18, k19, fwc, frg, flm, fst, fgv, fov, ffl, fmd, fwd, xlo, xla, xlb, xll, xce, xlc, xtop, xbot, xslo, xaim, xph, xcu, xhe, xit, xst, xsb, xpv, xtr, xpr, xar, xpa, xfk, xlk, xnk, xow, xki, xfo, xre, xbe, xck, xru, xpc, xjn, xbl, xrg, xod, xnu) p0 :=
  br_t ho ⟨hw, nm_r (e' := 5) hp (br_f (by decide) (br_f (by decide) (br_t (by decide) ⟨hw, ⟨hw, nm_e ⟨hw, br_f hc ⟨hw, xw_take hw K⟩⟩⟩⟩)))⟩
/-- the next prey, whichever it is -/
theorem xw_next (hw : vp_in p0 4) (K : ∀ (q : Int32) (tr' : Nat → Int32), (q = xaim p0.toNatClampNeg ∨ q = 0 ∨ q < fwc ∧ (q = xpv p0.toNatClampNeg + 1 ∨ q = p0 + 1 ∨ q = 0 + 1)) → post (k0, k1, k2, k3, k4, k5, k6, k7, k8, k9, k10, k11, k12, k13, k14, k15, k16, k17, k18, k19, fwc, frg, flm, fst, fgv, fov, ffl, fmd, fwd, xlo, xla, xlb, xll, xce, xlc, xtop, xbot, xslo, xaim, upd xph p0.toNatClampNeg 6, xcu, xhe, xit, xst, xsb, upd xpv p0.toNatClampNeg q, tr', xpr, xar, xpa, xfk, xlk, xnk, xow, xki, xfo, xre, xbe, xck, xru, xpc, xjn, xbl, xrg, xod, xnu)) : wpX_nextPrey post (k0, k1, k2, k3, k4, k5, k6, k7, k8, k9, k10, k11, k12, k13, k14, k15, k16, k17, k18, k19, fwc, frg, flm, fst, fgv, fov, ffl, fmd, fwd, xlo, xla, xlb, xll, xce, xlc, xtop, xbot, xslo, xaim, xph, xcu, xhe, xit, xst, xsb, xpv, xtr, xpr, xar, xpa, xfk, xlk, xnk, xow, xki, xfo, xre, xbe, xck, xru, xpc, xjn, xbl, xrg, xod, xnu) p0 := by
  have J68 : ∀ (x2 : Int32) (tr' : Nat → Int32), (x2 = xaim p0.toNatClampNeg ∨ x2 = 0 ∨ x2 < fwc ∧ (x2 = xpv p0.toNatClampNeg + 1 ∨ x2 = p0 + 1 ∨ x2 = 0 + 1)) → wX_nextPrey_68 post p0 x2 k0 k1 k2 k3 k4 k5 k6 k7 k8 k9 k10 k11 k12 k13 k14 k15 k16 k17 k18 k19 fwc frg flm fst fgv fov ffl fmd fwd xlo xla xlb xll xce xlc xtop xbot xslo xaim xph xcu xhe xit xst xsb xpv tr' xpr xar xpa xfk xlk xnk xow xki xfo xre xbe xck xru xpc xjn xbl xrg xod xnu := fun x2 tr' hx => ⟨hw, nm_e ⟨hw, nm_e (K x2 tr' hx)⟩⟩
  have J58 : ∀ (x2 : Int32) (tr' : Nat → Int32), (x2 = 0 ∨ x2 = xpv p0.toNatClampNeg + 1 ∨ x2 = p0 + 1 ∨ x2 = 0 + 1) → wX_nextPrey_58 post p0 x2 k0 k1 k2 k3 k4 k5 k6 k7 k8 k9 k10 k11 k12 k13 k14 k15 k16 k17 k18 k19 fwc frg flm fst fgv fov ffl fmd fwd xlo xla xlb xll xce xlc xtop xbot xslo xaim xph xcu xhe xit xst xsb xpv tr' xpr xar xpa xfk xlk xnk xow xki xfo xre xbe xck xru xpc xjn xbl xrg xod xnu := fun x2 tr' hx => br_c (fun a => J68 x2 tr' (hx.elim (fun z => Or.inr (Or.inl z)) (fun z => Or.inr (Or.inr ⟨a, z⟩)))) (fun _ => J68 0 tr' (Or.inr (Or.inl rfl)))
  have J50 : ∀ (x2 : Int32) (tr' : Nat → Int32), (x2 = 0 ∨ x2 = xpv p0.toNatClampNeg + 1) → wX_nextPrey_50 post p0 x2 k0 k1 k2 k3 k4 k5 k6 k7 k8 k9 k10 k11 k12 k13 k14 k15 k16 k17 k18 k19 fwc frg flm fst fgv fov ffl fmd fwd xlo xla xlb xll xce xlc xtop xbot xslo xaim xph xcu xhe xit xst xsb xpv tr' xpr xar xpa xfk xlk xnk xow xki xfo xre xbe xck xru xpc xjn xbl xrg xod xnu := fun x2 tr' hx => br_c (fun a => nm_e (J58 _ tr' (Or.inr (Or.inr (Or.inl (by rw [a])))))) (fun _ => J58 x2 tr' (hx.elim Or.inl (fun z => Or.inr (Or.inl z))))
  exact ⟨hw, ⟨hw, nm_e ⟨hw, br_c (fun _ => ⟨hw, nm_e (br_c (fun _ => J50 _ _ (Or.inr rfl)) (fun _ => J50 0 _ (Or.inl rfl)))⟩) (fun _ => xw_begin hw (K _ _ (Or.inl rfl)))⟩⟩⟩
theorem xw_st0 (ho : fov = 0) (hw : vp_in p0 4) {a : Int32} (hp : xph p0.toNatClampNeg = a) (ha : 5 < a ∧ ¬ 9 < a) (hv : xpv p0.toNatClampNeg = p0) (K : post (k0, k1, k2, k3, k4, k5, k6, k7, k8, k9, k10, k11, k12, k13, k14, k15, k16, k17, k18, k19, fwc, frg, flm, fst, fgv, fov, ffl, fmd, fwd, xlo, xla, xlb, xll, xce, xlc, xtop, xbot, xslo, xaim, xph, xcu, xhe, xit, xst, xsb, xpv, xtr, xpr, xar, xpa, xfk, xlk, xnk, xow, xki, xfo, xre, xbe, xck, xru, xpc, xjn, xbl, xrg, xod, xnu)) : wpX_step post (k0, k1, k2, k3, k4, k5, k6, k7, k8, k9, k10, k11, k12, k13, k14, k15, k16, k17, k18, k19, fwc, frg, flm, fst, fgv, fov, ffl, fmd, fwd, xlo, xla, xlb, xll, xce, xlc, xtop, xbot, xslo, xaim, xph, xcu, xhe, xit, xst, xsb, xpv, xtr, xpr, xar, xpa, xfk, xlk, xnk, xow, xki, xfo, xre, xbe, xck, xru, xpc, xjn, xbl, xrg, xod, xnu) p0 :=
  br_t ho ⟨hw, nm_r hp (br_t ha.1 (br_f ha.2 ⟨hw, nm_r hv (br_t rfl K)⟩))⟩
theorem xw_st6 {pv : Int32} (ho : fov = 0) (hw : vp_in p0 4) (hp : xph p0.toNatClampNeg = 6) (hv : xpv p0.toNatClampNeg = pv) (hn : ¬ pv = p0) (hvi : vp_in pv 4) (K : post (k0, k1, k2, k3, k4, k5, k6, k7, k8, k9, k10, k11, k12, k13, k14, k15, k16, k17, k18, k19, fwc, frg, flm, fst, fgv, fov, ffl, fmd, fwd, xlo, xla, xlb, xll, xce, xlc, xtop, xbot, xslo, xaim, upd xph p0.toNatClampNeg 7, xcu, xhe, xit, upd xst p0.toNatClampNeg (xtop pv.toNatClampNeg), xsb, xpv, xtr, xpr, xar, xpa, xfk, xlk, xnk, xow, xki, xfo, xre, xbe, xck, xru, xpc, xjn, xbl, xrg, xod, xnu)) : wpX_step post (k0, k1, k2, k3, k4, k5, k6, k7, k8, k9, k10, k11, k12, k13, k14, k15, k16, k17, k18, k19, fwc, frg, flm, fst, fgv, fov, ffl, fmd, fwd, xlo, xla, xlb, xll, xce, xlc, xtop, xbot, xslo, xaim, xph, xcu, xhe, xit, xst, xsb, xpv, xtr, xpr, xar, xpa, xfk, xlk, xnk, xow, xki, xfo, xre, xbe, xck, xru, xpc, xjn, xbl, xrg, xod, xnu) p0 :=
  br_t ho ⟨hw, nm_r (e' := 6) hp (br_t (by decide) (br_f (by decide) ⟨hw, nm_r hv (br_f hn (br_f (by decide) (br_f (by decide) (br_t rfl ⟨hvi, ⟨hw, nm_e ⟨hw, nm_e K⟩⟩⟩))))⟩))⟩
theorem xw_st7a {pv : Int32} (ho : fov = 0) (hw : vp_in p0 4) (hp : xph p0.toNatClampNeg = 7) (hv : xpv p0.toNatClampNeg = pv) (hn : ¬ pv = p0) (hvi : vp_in pv 4) (hc : xbot pv.toNatClampNeg ≤ xst p0.toNatClampNeg) (K : wpX_nextPrey post (k0, k1, k2, k3, k4, k5, k6, k7, k8, k9, k10, k11, k12, k13, k14, k15, k16, k17, k18, k19, fwc, frg, flm, fst, fgv, fov, ffl, fmd, fwd, xlo, xla, xlb, xll, xce, xlc, xtop, xbot, xslo, xaim, xph, xcu, xhe, xit, xst, xsb, xpv, xtr, xpr, xar, xpa, xfk, xlk, xnk, xow, xki, xfo, xre, xbe, xck, xru, xpc, xjn, xbl, xrg, xod, xnu) p0) : wpX_step post (k0, k1, k2, k3, k4, k5, k6, k7, k8, k9, k10, k11, k12, k13, k14, k15, k16, k17, k18, k19, fwc, frg, flm, fst, fgv, fov, ffl, fmd, fwd, xlo, xla, xlb, xll, xce, xlc, xtop, xbot, xslo, xaim, xph, xcu, xhe, xit, xst, xsb, xpv, xtr, xpr, xar, xpa, xfk, xlk, xnk, xow, xki, xfo, xre, xbe, xck, xru, xpc, xjn, xbl, xrg, xod, xnu) p0 :=
  br_t ho ⟨hw, nm_r (e' := 7) hp (br_t (by decide) (br_f (by decide) ⟨hw, nm_r hv (br_f hn (br_f (by decide) (br_f (by decide) (br_f (by decide) (br_t rfl ⟨hvi, ⟨hw, br_t hc K⟩⟩)))))⟩))⟩
theorem xw_st7b {pv : Int32} (ho : fov = 0) (hw : vp_in p0 4) (hp : xph p0.toNatClampNeg = 7) (hv : xpv p0.toNatClampNeg = pv) (hn : ¬ pv = p0) (hvi : vp_in pv 4) (hc : ¬ xbot pv.toNatClampNeg ≤ xst p0.toNatClampNeg) (K : post (k0, k1, k2, k3, k4, k5, k6, k7, k8, k9, k10, k11, k12, k13, k14, k15, k16, k17, k18, k19, fwc, frg, flm, fst, fgv, fov, ffl, fmd, fwd, xlo, xla, xlb, xll, xce, xlc, xtop, xbot, xslo, xaim, upd xph p0.toNatClampNeg 8, xcu, xhe, xit, xst, xsb, xpv, xtr, xpr, xar, xpa, xfk, xlk, xnk, xow, xki, xfo, xre, xbe, xck, xru, xpc, xjn, xbl, xrg, xod, xnu)) : wpX_step post (k0, k1, k2, k3, k4, k5, k6, k7, k8, k9, k10, k11, k12, k13, k14, k15, k16, k17, k18, k19, fwc, frg, flm, fst, fgv, fov, ffl, fmd, fwd, xlo, xla, xlb, xll, xce, xlc, xtop, xbot, xslo, xaim, xph, xcu, xhe, xit, xst, xsb, xpv, xtr, xpr, xar, xpa, xfk, xlk, xnk, xow, xki, xfo, xre, xbe, xck, xru, xpc, xjn, xbl, xrg, xod, xnu) p0 :=
  br_t ho ⟨hw, nm_r (e' := 7) hp (br_t (by decide) (br_f (by decide) ⟨hw, nm_r hv (br_f hn (br_f (by decide) (br_f (by decide) (br_f (by decide) (br_t rfl ⟨hvi, ⟨hw, br_f hc ⟨hw, nm_e K⟩⟩⟩)))))⟩))⟩
theorem xw_st8 {pv r : Int32} (ho : fov = 0) (hw : vp_in p0 4) (hp : xph p0.toNatClampNeg = 8) (hv : xpv p0.toNatClampNeg = pv) (hn : ¬ pv = p0) (hr : ¬ frg = 0) (e : pv * 8 + (xst p0.toNatClampNeg - xst p0.toNatClampNeg / frg * frg) = r) (hs : vp_in r 32) (K : post (k0, k1, k2, k3, k4, k5, k6, k7, k8, k9, k10, k11, k12, k13, k14, k15, k16, k17, k18, k19, fwc, frg, flm, fst, fgv, fov, ffl, fmd, fwd, xlo, xla, xlb, xll, xce, xlc, xtop, xbot, xslo, xaim, upd xph p0.toNatClampNeg 9, xcu, xhe, upd xit p0.toNatClampNeg (xslo r.toNatClampNeg), xst, xsb, xpv, xtr, xpr, xar, xpa, xfk, xlk, xnk, xow, xki, xfo, xre, xbe, xck, xru, xpc, xjn, xbl, xrg, xod, xnu)) : wpX_step post (k0, k1, k2, k3, k4, k5, k6, k7, k8, k9, k10, k11, k12, k13, k14, k15, k16, k17, k18, k19, fwc, frg, flm, fst, fgv, fov, ffl, fmd, fwd, xlo, xla, xlb, xll, xce, xlc, xtop, xbot, xslo, xaim, xph, xcu, xhe, xit, xst, xsb, xpv, xtr, xpr, xar, xpa, xfk, xlk, xnk, xow, xki, xfo, xre, xbe, xck, xru, xpc, xjn, xbl, xrg, xod, xnu) p0 :=
  br_t ho ⟨hw, nm_r (e' := 8) hp (br_t (by decide) (br_f (by decide) ⟨hw, nm_r hv (br_f hn (br_f (by decide) (br_f (by decide) (br_f (by decide) (br_f (by decide) (br_t rfl ⟨hw, xw_slot hr e ⟨hs, ⟨hw, nm_e ⟨hw, nm_e K⟩⟩⟩⟩))))))⟩))⟩
theorem xw_st9a {pv : Int32} (ho : fov = 0) (hw : vp_in p0 4) (hp : xph p0.toNatClampNeg = 9) (hv : xpv p0.toNatClampNeg = pv) (hn : ¬ pv = p0) (hvi : vp_in pv 4) (hc : xtop pv.toNatClampNeg = xst p0.toNatClampNeg) (K : post (k0, k1, k2, k3, k4, k5, k6, k7, k8, k9, k10, k11, k12, k13, k14, k15, k16, k17, k18, k19, fwc, frg, flm, fst, fgv, fov, ffl, fmd, fwd, xlo, xla, xlb, xll, xce, xlc, upd xtop pv.toNatClampNeg (xst p0.toNatClampNeg + 1), xbot, xslo, xaim, upd xph p0.toNatClampNeg 14, upd xcu p0.toNatClampNeg (xit p0.toNatClampNeg), xhe, upd xit p0.toNatClampNeg (-1), xst, xsb, xpv, xtr, xpr, xar, xpa, xfk, xlk, xnk, xow, xki, xfo, xre, xbe, xck, xru, xpc, xjn, xbl, xrg, xod, xnu)) : wpX_step post (k0, k1, k2, k3, k4, k5, k6, k7, k8, k9, k10, k11, k12, k13, k14, k15, k16, k17, k18, k19, fwc, frg, flm, fst, fgv, fov, ffl, fmd, fwd, xlo, xla, xlb, xll, xce, xlc, xtop, xbot, xslo, xaim, xph, xcu, xhe, xit, xst, xsb, xpv, xtr, xpr, xar, xpa, xfk, xlk, xnk, xow, xki, xfo, xre, xbe, xck, xru, xpc, xjn, xbl, xrg, xod, xnu) p0 :=
  br_t ho ⟨hw, nm_r (e' := 9) hp (br_t (by decide) (br_f (by decide) ⟨hw, nm_r hv (br_f hn (br_f (by decide) (br_t (by decide) ⟨hvi, ⟨hw, br_t hc ⟨hw, ⟨hvi, nm_e ⟨hw, xw_take hw K⟩⟩⟩⟩⟩)))⟩))⟩
theorem xw_st9b {pv : Int32} (ho : fov = 0) (hw : vp_in p0 4) (hp : xph p0.toNatClampNeg = 9) (hv : xpv p0.toNatClampNeg = pv) (hn : ¬ pv = p0) (hvi : vp_in pv 4) (hc : ¬ xtop pv.toNatClampNeg = xst p0.toNatClampNeg) (K : wpX_nextPrey post (k0, k1, k2, k3, k4, k5, k6, k7, k8, k9, k10, k11, k12, k13, k14, k15, k16, k17, k18, k19, fwc, frg, flm, fst, fgv, fov, ffl, fmd, fwd, xlo, xla, xlb, xll, xce, xlc, xtop, xbot, xslo, xaim, xph, xcu, xhe, xit, xst, xsb, xpv, xtr, xpr, xar, xpa, xfk, xlk, xnk, xow, xki, xfo, xre, xbe, xck, xru, xpc, xjn, xbl, xrg, xod, xnu) p0) : wpX_step post (k0, k1, k2, k3, k4, k5, k6, k7, k8, k9, k10, k11, k12, k13, k14, k15, k16, k17, k18, k19, fwc, frg, flm, fst, fgv, fov, ffl, fmd, fwd, xlo, xla, xlb, xll, xce, xlc, xtop, xbot, xslo, xaim, xph, xcu, xhe, xit, xst, xsb, xpv, xtr, xpr, xar, xpa, xfk, xlk, xnk, xow, xki, xfo, xre, xbe, xck, xru, xpc, xjn, xbl, xrg, xod, xnu) p0 :=
  br_t ho ⟨hw, nm_r (e' := 9) hp (br_t (by decide) (br_f (by decide) ⟨hw, nm_r hv (br_f hn (br_f (by decide) (br_t (by decide) ⟨hvi, ⟨hw, br_f hc K⟩⟩)))⟩))⟩
theorem xw_pu10 (ho : fov = 0) (hw : vp_in p0 4) (hp : xph p0.toNatClampNeg = 10) (K : post (k0, k1, k2, k3, k4, k5, k6, k7, k8, k9, k10, k11, k12, k13, k14, k15, k16, k17, k18, k19, fwc, frg, flm, fst, fgv, fov, ffl, fmd, fwd, xlo, xla, xlb, xll, xce, xlc, xtop, xbot, xslo, xaim, upd xph p0.toNatClampNeg 11, xcu, xhe, xit, xst, upd xsb p0.toNatClampNeg (xbot p0.toNatClampNeg), xpv, xtr, xpr, xar, xpa, xfk, xlk, xnk, xow, xki, xfo, xre, xbe, xck, xru, xpc, xjn, xbl, xrg, xod, xnu)) : wpX_step post (k0, k1, k2, k3, k4, k5, k6, k7, k8, k9, k10, k11, k12, k13, k14, k15, k16, k17, k18, k19, fwc, frg, flm, fst, fgv, fov, ffl, fmd, fwd, xlo, xla, xlb, xll, xce, xlc, xtop, xbot, xslo, xaim, xph, xcu, xhe, xit, xst, xsb, xpv, xtr, xpr, xar, xpa, xfk, xlk, xnk, xow, xki, xfo, xre, xbe, xck, xru, xpc, xjn, xbl, xrg, xod, xnu) p0 :=
  br_t ho ⟨hw, nm_r (e' := 10) hp (br_t (by decide) (br_t (by decide) (br_f (by decide) (br_f (by decide) (br_f (by decide) (br_t rfl ⟨hw, ⟨hw, nm_e ⟨hw, nm_e K⟩⟩⟩))))))⟩
theorem xw_pu11a (ho : fov = 0) (hw : vp_in p0 4) (hp : xph p0.toNatClampNeg = 11) (hc : xsb p0.toNatClampNeg - xtop p0.toNatClampNeg < frg) (K : post (k0, k1, k2, k3, k4, k5, k6, k7, k8, k9, k10, k11, k12, k13, k14, k15, k16, k17, k18, k19, fwc, frg, flm, fst, fgv, fov, ffl, fmd, fwd, xlo, xla, xlb, xll, xce, xlc, xtop, xbot, xslo, xaim, upd xph p0.toNatClampNeg 12, xcu, xhe, xit, upd xst p0.toNatClampNeg (xtop p0.toNatClampNeg), xsb, xpv, xtr, xpr, xar, xpa, xfk, xlk, xnk, xow, xki, xfo, xre, xbe, xck, xru, xpc, xjn, xbl, xrg, xod, xnu)) : wpX_step post (k0, k1, k2, k3, k4, k5, k6, k7, k8, k9, k10, k11, k12, k13, k14, k15, k16, k17, k18, k19, fwc, frg, flm, fst, fgv, fov, ffl, fmd, fwd, xlo, xla, xlb, xll, xce, xlc, xtop, xbot, xslo, xaim, xph, xcu, xhe, xit, xst, xsb, xpv, xtr, xpr, xar, xpa, xfk, xlk, xnk, xow, xki, xfo, xre, xbe, xck, xru, xpc, xjn, xbl, xrg, xod, xnu) p0 :=
  br_t ho ⟨hw, nm_r (e' := 11) hp (br_t (by decide) (br_t (by decide) (br_f (by decide) (br_f (by decide) (br_f (by decide) (br_f (by decide) (br_t rfl ⟨hw, ⟨hw, nm_e ⟨hw, ⟨hw, br_t (by rw [us_s]; exact hc) ⟨hw, nm_e K⟩⟩⟩⟩⟩)))))))⟩
theorem xw_pu11b {t : Int32} (ho : fov = 0) (hw : vp_in p0 4) (hp : xph p0.toNatClampNeg = 11) (hc : ¬ xsb p0.toNatClampNeg - xtop p0.toNatClampNeg < frg) (ht : xcu p0.toNatClampNeg = t) (hti : vp_in t 48) (K : post (k0, k1, k2, k3, k4, k5, k6, k7, k8, k9, k10, k11, k12, k13, k14, k15, k16, k17, k18, k19, fwc, frg, flm, fst, fgv, fov, ffl, fmd, fwd, xlo, xla, xlb, xll, xce, xlc, xtop, xbot, xslo, xaim, upd xph p0.toNatClampNeg 14, upd xcu p0.toNatClampNeg (xit p0.toNatClampNeg), upd xhe p0.toNatClampNeg t, upd xit p0.toNatClampNeg (-1), upd xst p0.toNatClampNeg (xtop p0.toNatClampNeg), xsb, xpv, xtr, xpr, xar, xpa, xfk, xlk, xnk, xow, xki, xfo, xre, xbe, xck, xru, xpc, xjn, upd xbl t.toNatClampNeg (xhe p0.toNatClampNeg), xrg, xod, xnu)) : wpX_step post (k0, k1, k2, k3, k4, k5, k6, k7, k8, k9, k10, k11, k12, k13, k14, k15, k16, k17, k18, k19, fwc, frg, flm, fst, fgv, fov, ffl, fmd, fwd, xlo, xla, xlb, xll, xce, xlc, xtop, xbot, xslo, xaim, xph, xcu, xhe, xit, xst, xsb, xpv, xtr, xpr, xar, xpa, xfk, xlk, xnk, xow, xki, xfo, xre, xbe, xck, xru, xpc, xjn, xbl, xrg, xod, xnu) p0 :=
  br_t ho ⟨hw, nm_r (e' := 11) hp (br_t (by decide) (br_t (by decide) (br_f (by decide) (br_f (by decide) (br_f (by decide) (br_f (by decide) (br_t rfl ⟨hw, ⟨hw, nm_e ⟨hw, ⟨hw, br_f (by rw [us_s]; exact hc) ⟨hw, nm_r ht ⟨hw, ⟨hti, nm_e ⟨hw, nm_e ⟨hw, xw_take hw K⟩⟩⟩⟩⟩⟩⟩⟩⟩)))))))⟩
theorem xw_pu12 {r : Int32} (ho : fov = 0) (hw : vp_in p0 4) (hp : xph p0.toNatClampNeg = 12) (hr : ¬ frg = 0) (e : p0 * 8 + (xsb p0.toNatClampNeg - xsb p0.toNatClampNeg / frg * frg) = r) (hs : vp_in r 32) (K : post (k0, k1, k2, k3, k4, k5, k6, k7, k8, k9, k10, k11, k12, k13, k14, k15, k16, k17, k18, k19, fwc, frg, flm, fst, fgv, fov, ffl, fmd, fwd, xlo, xla, xlb, xll, xce, xlc, xtop, xbot, upd xslo r.toNatClampNeg (xit p0.toNatClampNeg), xaim, upd xph p0.toNatClampNeg 13, xcu, xhe, xit, xst, xsb, xpv, xtr, xpr, xar, xpa, xfk, xlk, xnk, xow, xki, xfo, xre, xbe, xck, xru, xpc, xjn, xbl, xrg, xod, xnu)) : wpX_step post (k0, k1, k2, k3, k4, k5, k6, k7, k8, k9, k10, k11, k12, k13, k14, k15, k16, k17, k18, k19, fwc, frg, flm, fst, fgv, fov, ffl, fmd, fwd, xlo, xla, xlb, xll, xce, xlc, xtop, xbot, xslo, xaim, xph, xcu, xhe, xit, xst, xsb, xpv, xtr, xpr, xar, xpa, xfk, xlk, xnk, xow, xki, xfo, xre, xbe, xck, xru, xpc, xjn, xbl, xrg, xod, xnu) p0 :=
  br_t ho ⟨hw, nm_r (e' := 12) hp (br_t (by decide) (br_t (by decide) (br_f (by decide) (br_f (by decide) (br_f (by decide) (br_f (by decide) (br_f (by decide) (br_t rfl ⟨hw, xw_slot hr e ⟨hw, ⟨hs, nm_e ⟨hw, nm_e K⟩⟩⟩⟩))))))))⟩
theorem xw_pu13 (ho : fov = 0) (hw : vp_in p0 4) (hp : xph p0.toNatClampNeg = 13) (K : post (k0, k1, k2, k3, k4, k5, k6, k7, k8, k9, k10, k11, k12, k13, k14, k15, k16, k17, k18, k19, fwc, frg, flm, fst, fgv, fov, ffl, fmd, fwd, xlo, xla, xlb, xll, xce, xlc, xtop, upd xbot p0.toNatClampNeg (xsb p0.toNatClampNeg + 1), xslo, xaim, upd xph p0.toNatClampNeg 14, xcu, xhe, upd xit p0.toNatClampNeg (-1), xst, xsb, xpv, xtr, xpr, xar, xpa, xfk, xlk, xnk, xow, xki, xfo, xre, xbe, xck, xru, xpc, xjn, xbl, xrg, xod, xnu)) : wpX_step post (k0, k1, k2, k3, k4, k5, k6, k7, k8, k9, k10, k11, k12, k13, k14, k15, k16, k17, k18, k19, fwc, frg, flm, fst, fgv, fov, ffl, fmd, fwd, xlo, xla, xlb, xll, xce, xlc, xtop, xbot, xslo, xaim, xph, xcu, xhe, xit, xst, xsb, xpv, xtr, xpr, xar, xpa, xfk, xlk, xnk, xow, xki, xfo, xre, xbe, xck, xru, xpc, xjn, xbl, xrg, xod, xnu) p0 :=
  br_t ho ⟨hw, nm_r (e' := 13) hp (br_t (by decide) (br_t (by decide) (br_f (by decide) (br_f (by decide) (br_t (by decide) ⟨hw, ⟨hw, nm_e ⟨hw, nm_e ⟨hw, nm_e K⟩⟩⟩⟩)))))⟩
theorem xw_rest0 (hw : vp_in p0 4) {h : Int32} (hh : xhe p0.toNatClampNeg = h) (hc : h < 0) (K : post (k0, k1, k2, k3, k4, k5, k6, k7, k8, k9, k10, k11, k12, k13, k14, k15, k16, k17, k18, k19, fwc, frg, flm, fst, fgv, fov, ffl, fmd, fwd, xlo, xla, xlb, xll, xce, xlc, xtop, xbot, xslo, xaim, upd xph p0.toNatClampNeg 0, upd xcu p0.toNatClampNeg h, xhe, xit, xst, xsb, xpv, xtr, xpr, xar, xpa, xfk, xlk, xnk, xow, xki, xfo, xre, xbe, xck, xru, xpc, xjn, xbl, xrg, xod, xnu)) : wpX_rest post (k0, k1, k2, k3, k4, k5, k6, k7, k8, k9, k10, k11, k12, k13, k14, k15, k16, k17, k18, k19, fwc, frg, flm, fst, fgv, fov, ffl, fmd, fwd, xlo, xla, xlb, xll, xce, xlc, xtop, xbot, xslo, xaim, xph, xcu, xhe, xit, xst, xsb, xpv, xtr, xpr, xar, xpa, xfk, xlk, xnk, xow, xki, xfo, xre, xbe, xck, xru, xpc, xjn, xbl, xrg, xod, xnu) p0 :=
  ⟨hw, nm_r hh ⟨hw, nm_e (br_t hc ⟨hw, nm_e K⟩)⟩⟩
theorem xw_rest1 (hw : vp_in p0 4) {h : Int32} (hh : xhe p0.toNatClampNeg = h) (hc : ¬ h < 0) (hi : vp_in h 48) (K : post (k0, k1, k2, k3, k4, k5, k6, k7, k8, k9, k10, k11, k12, k13, k14, k15, k16, k17, k18, k19, fwc, frg, flm, fst, fgv, fov, ffl, fmd, fwd, xlo, xla, xlb, xll, xce, xlc, xtop, xbot, xslo, xaim, upd xph p0.toNatClampNeg 14, upd xcu p0.toNatClampNeg h, upd xhe p0.toNatClampNeg (xbl h.toNatClampNeg), xit, xst, xsb, xpv, xtr, xpr, xar, xpa, xfk, xlk, xnk, xow, xki, xfo, xre, xbe, xck, xru, xpc, xjn, upd xbl h.toNatClampNeg (-1), xrg, xod, xnu)) : wpX_rest post (k0, k1, k2, k3, k4, k5, k6, k7, k8, k9, k10, k11, k12, k13, k14, k15, k16, k17, k18, k19, fwc, frg, flm, fst, fgv, fov, ffl, fmd, fwd, xlo, xla, xlb, xll, xce, xlc, xtop, xbot, xslo, xaim, xph, xcu, xhe, xit, xst, xsb, xpv, xtr, xpr, xar, xpa, xfk, xlk, xnk, xow, xki, xfo, xre, xbe, xck, xru, xpc, xjn, xbl, xrg, xod, xnu) p0 :=
  ⟨hw, nm_r hh ⟨hw, nm_e (br_f hc ⟨hi, ⟨hw, nm_e ⟨hi, nm_e ⟨hw, nm_e K⟩⟩⟩⟩)⟩⟩
theorem xw_eta {P : SX → Prop} (h : ∀ k0 k1 k2 k3 k4 k5 k6 k7 k8 k9 k10 k11 k12 k13 k14 k15 k16 k17 k18 k19 fwc frg flm fst fgv fov ffl fmd fwd xlo xla xlb xll xce xlc xtop xbot xslo xaim xph xcu xhe xit xst xsb xpv xtr xpr xar xpa xfk xlk xnk xow xki xfo xre xbe xck xru xpc xjn xbl xrg xod xnu, P (k0, k1, k2, k3, k4, k5, k6, k7, k8, k9, k10, k11, k12, k13, k14, k15, k16, k17, k18, k19, fwc, frg, flm, fst, fgv, fov, ffl, fmd, fwd, xlo, xla, xlb, xll, xce, xlc, xtop, xbot, xslo, xaim, xph, xcu, xhe, xit, xst, xsb, xpv, xtr, xpr, xar, xpa, xfk, xlk, xnk, xow, xki, xfo, xre, xbe, xck, xru, xpc, xjn, xbl, xrg, xod, xnu)) (u : SX) : P u := by
  obtain ⟨k0, k1, k2, k3, k4, k5, k6, k7, k8, k9, k10, k11, k12, k13, k14, k15, k16, k17, k18, k19, fwc, frg, flm, fst, fgv, fov, ffl, fmd, fwd, xlo, xla, xlb, xll, xce, xlc, xtop, xbot, xslo, xaim, xph, xcu, xhe, xit, xst, xsb, xpv, xtr, xpr, xar, xpa, xfk, xlk, xnk, xow, xki, xfo, xre, xbe, xck, xru, xpc, xjn, xbl, xrg, xod, xnu⟩ := u
  exact h k0 k1 k2 k3 k4 k5 k6 k7 k8 k9 k10 k11 k12 k13 k14 k15 k16 k17 k18 k19 fwc frg flm fst fgv fov ffl fmd fwd xlo xla xlb xll xce xlc xtop xbot xslo xaim xph xcu xhe xit xst xsb xpv xtr xpr xar xpa xfk xlk xnk xow xki xfo xre xbe xck xru xpc xjn xbl xrg xod xnu
theorem xw_14 {t : Int32} (ho : fov = 0) (hw : vp_in p0 4) (hp : xph p0.toNatClampNeg = 14) (hcu : xcu p0.toNatClampNeg = t) (K : wpX_runLine post (k0, k1, k2, k3, k4, k5, k6, k7, k8, k9, k10, k11, k12, k13, k14, k15, k16, k17, k18, k19, fwc, frg, flm, fst, fgv, fov, ffl, fmd, fwd, xlo, xla, xlb, xll, xce, xlc, xtop, xbot, xslo, xaim, xph, xcu, xhe, xit, xst, xsb, xpv, xtr, xpr, xar, xpa, xfk, xlk, xnk, xow, xki, xfo, xre, xbe, xck, xru, xpc, xjn, xbl, xrg, xod, xnu) p0 t) : wpX_step post (k0, k1, k2, k3, k4, k5, k6, k7, k8, k9, k10, k11, k12, k13, k14, k15, k16, k17, k18, k19, fwc, frg, flm, fst, fgv, fov, ffl, fmd, fwd, xlo, xla, xlb, xll, xce, xlc, xtop, xbot, xslo, xaim, xph, xcu, xhe, xit, xst, xsb, xpv, xtr, xpr, xar, xpa, xfk, xlk, xnk, xow, xki, xfo, xre, xbe, xck, xru, xpc, xjn, xbl, xrg, xod, xnu) p0 :=
  br_t ho ⟨hw, nm_r (e' := 14) hp (br_t (by decide) (br_t (by decide) (br_t (by decide) ⟨hw, nm_r hcu (br_f (by decide) (br_f (by decide) (br_t rfl K)))⟩)))⟩
end
end
section
/-! the component's turn with a task in hand -/
section
variable {post : SX → Prop} {k0 k1 k2 k3 k4 k5 k6 k7 k8 k9 k10 k11 k12 k13 k14 k15 k16 k17 k18 k19 fwc frg flm fst fgv fov ffl fmd fwd : Int32} {xlo xla xlb xll xce xlc xtop xbot xslo xaim xph xcu xhe xit xst xsb xpv xtr xpr xar xpa xfk xlk xnk xow xki xfo xre xbe xck xru xpc xjn xbl xrg xod xnu : Nat → Int32} {p0 : Int32}
theorem xw_15 {t : Int32} (ho : fov = 0) (hw : vp_in p0 4) (hp : xph p0.toNatClampNeg = 15) (hcu : xcu p0.toNatClampNeg = t) (ht : vp_in t 48) (K : post (k0, k1, k2, k3, k4, k5, k6, k7, k8, k9, k10, k11, k12, k13, k14, k15, k16, k17, k18, k19, fwc, frg, flm, fst, fgv, fov, ffl, fmd, fwd, xlo, xla, xlb, xll, xce, xlc, xtop, xbot, xslo, xaim, upd xph p0.toNatClampNeg 10, xcu, xhe, xit, xst, xsb, xpv, xtr, xpr, xar, xpa, xfk, xlk, xnk, xow, xki, xfo, xre, xbe, xck, xru, xpc, upd xjn t.toNatClampNeg (xjn t.toNatClampNeg + 1), xbl, xrg, xod, xnu)) : wpX_step post (k0, k1, k2, k3, k4, k5, k6, k7, k8, k9, k10, k11, k12, k13, k14, k15, k16, k17, k18, k19, fwc, frg, flm, fst, fgv, fov, ffl, fmd, fwd, xlo, xla, xlb, xll, xce, xlc, xtop, xbot, xslo, xaim, xph, xcu, xhe, xit, xst, xsb, xpv, xtr, xpr, xar, xpa, xfk, xlk, xnk, xow, xki, xfo, xre, xbe, xck, xru, xpc, xjn, xbl, xrg, xod, xnu) p0 :=
  br_t ho ⟨hw, nm_r (e' := 15) hp (br_t (by decide) (br_t (by decide) (br_t (by decide) ⟨hw, nm_r hcu (br_f (by decide) (br_f (by decide) (br_f (by decide) (br_t rfl ⟨ht, ⟨ht, nm_e ⟨hw, nm_e K⟩⟩⟩))))⟩)))⟩
theorem xw_16a {t : Int32} (ho : fov = 0) (hw : vp_in p0 4) (hp : xph p0.toNatClampNeg = 16) (hcu : xcu p0.toNatClampNeg = t) (ht : vp_in t 48) (hc : xjn t.toNatClampNeg - 1 = 0) (K : post (k0, k1, k2, k3, k4, k5, k6, k7, k8, k9, k10, k11, k12, k13, k14, k15, k16, k17, k18, k19, fwc, frg, flm, fst, fgv, fov, ffl, fmd, fwd, xlo, xla, xlb, xll, xce, xlc, xtop, xbot, xslo, xaim, upd xph p0.toNatClampNeg 17, xcu, xhe, xit, xst, xsb, xpv, xtr, xpr, xar, xpa, xfk, xlk, xnk, xow, xki, xfo, xre, xbe, xck, xru, xpc, upd xjn t.toNatClampNeg (xjn t.toNatClampNeg - 1), xbl, xrg, xod, xnu)) : wpX_step post (k0, k1, k2, k3, k4, k5, k6, k7, k8, k9, k10, k11, k12, k13, k14, k15, k16, k17, k18, k19, fwc, frg, flm, fst, fgv, fov, ffl, fmd, fwd, xlo, xla, xlb, xll, xce, xlc, xtop, xbot, xslo, xaim, xph, xcu, xhe, xit, xst, xsb, xpv, xtr, xpr, xar, xpa, xfk, xlk, xnk, xow, xki, xfo, xre, xbe, xck, xru, xpc, xjn, xbl, xrg, xod, xnu) p0 :=
  br_t ho ⟨hw, nm_r (e' := 16) hp (br_t (by decide) (br_t (by decide) (br_t (by decide) ⟨hw, nm_r hcu (br_f (by decide) (br_f (by decide) (br_f (by decide) (br_f (by decide) (br_t rfl ⟨ht, ⟨ht, nm_e ⟨ht, br_t (by rw [us_s]; exact hc) ⟨hw, nm_e K⟩⟩⟩⟩)))))⟩)))⟩
theorem xw_16b {t : Int32} (ho : fov = 0) (hw : vp_in p0 4) (hp : xph p0.toNatClampNeg = 16) (hcu : xcu p0.toNatClampNeg = t) (ht : vp_in t 48) (hc : ¬ xjn t.toNatClampNeg - 1 = 0) (K : wpX_rest post (k0, k1, k2, k3, k4, k5, k6, k7, k8, k9, k10, k11, k12, k13, k14, k15, k16, k17, k18, k19, fwc, frg, flm, fst, fgv, fov, ffl, fmd, fwd, xlo, xla, xlb, xll, xce, xlc, xtop, xbot, xslo, xaim, xph, xcu, xhe, xit, xst, xsb, xpv, xtr, xpr, xar, xpa, xfk, xlk, xnk, xow, xki, xfo, xre, xbe, xck, xru, xpc, upd xjn t.toNatClampNeg (xjn t.toNatClampNeg - 1), xbl, xrg, xod, xnu) p0) : wpX_step post (k0, k1, k2, k3, k4, k5, k6, k7, k8, k9, k10, k11, k12, k13, k14, k15, k16, k17, k18, k19, fwc, frg, flm, fst, fgv, fov, ffl, fmd, fwd, xlo, xla, xlb, xll, xce, xlc, xtop, xbot, xslo, xaim, xph, xcu, xhe, xit, xst, xsb, xpv, xtr, xpr, xar, xpa, xfk, xlk, xnk, xow, xki, xfo, xre, xbe, xck, xru, xpc, xjn, xbl, xrg, xod, xnu) p0 :=
  br_t ho ⟨hw, nm_r (e' := 16) hp (br_t (by decide) (br_t (by decide) (br_t (by decide) ⟨hw, nm_r hcu (br_f (by decide) (br_f (by decide) (br_f (by decide) (br_f (by decide) (br_t rfl ⟨ht, ⟨ht, nm_e ⟨ht, br_f (by rw [us_s]; exact hc) K⟩⟩⟩)))))⟩)))⟩
theorem xw_17 {t : Int32} (ho : fov = 0) (hw : vp_in p0 4) (hp : xph p0.toNatClampNeg = 17) (hcu : xcu p0.toNatClampNeg = t) (K : wpX_complete post (k0, k1, k2, k3, k4, k5, k6, k7, k8, k9, k10, k11, k12, k13, k14, k15, k16, k17, k18, k19, fwc, frg, flm, fst, fgv, fov, ffl, fmd, fwd, xlo, xla, xlb, xll, xce, xlc, xtop, xbot, xslo, xaim, xph, xcu, xhe, xit, xst, xsb, xpv, xtr, xpr, xar, xpa, xfk, xlk, xnk, xow, xki, xfo, xre, xbe, xck, xru, xpc, xjn, xbl, xrg, xod, xnu) p0 t) : wpX_step post (k0, k1, k2, k3, k4, k5, k6, k7, k8, k9, k10, k11, k12, k13, k14, k15, k16, k17, k18, k19, fwc, frg, flm, fst, fgv, fov, ffl, fmd, fwd, xlo, xla, xlb, xll, xce, xlc, xtop, xbot, xslo, xaim, xph, xcu, xhe, xit, xst, xsb, xpv, xtr, xpr, xar, xpa, xfk, xlk, xnk, xow, xki, xfo, xre, xbe, xck, xru, xpc, xjn, xbl, xrg, xod, xnu) p0 :=
  br_t ho ⟨hw, nm_r (e' := 17) hp (br_t (by decide) (br_t (by decide) (br_t (by decide) ⟨hw, nm_r hcu (br_f (by decide) (br_f (by decide) (br_f (by decide) (br_f (by decide) (br_f (by decide) (br_t rfl K))))))⟩)))⟩
theorem xw_18 {t : Int32} (ho : fov = 0) (hw : vp_in p0 4) (hp : xph p0.toNatClampNeg = 18) (hcu : xcu p0.toNatClampNeg = t) (ht : vp_in t 48) (K : post (k0, k1, k2, k3, k4, k5, k6, k7, k8, k9, k10, k11, k12, k13, k14, k15, k16, k17, k18, k19, fwc, frg, flm, fst, fgv, fov, ffl, fmd, fwd, xlo, xla, xlb, xll, xce, xlc, xtop, xbot, xslo, xaim, upd xph p0.toNatClampNeg 14, xcu, xhe, xit, xst, xsb, xpv, xtr, xpr, xar, xpa, xfk, xlk, xnk, xow, xki, xfo, xre, xbe, xck, xru, xpc, upd xjn t.toNatClampNeg 1, xbl, xrg, xod, xnu)) : wpX_step post (k0, k1, k2, k3, k4, k5, k6, k7, k8, k9, k10, k11, k12, k13, k14, k15, k16, k17, k18, k19, fwc, frg, flm, fst, fgv, fov, ffl, fmd, fwd, xlo, xla, xlb, xll, xce, xlc, xtop, xbot, xslo, xaim, xph, xcu, xhe, xit, xst, xsb, xpv, xtr, xpr, xar, xpa, xfk, xlk, xnk, xow, xki, xfo, xre, xbe, xck, xru, xpc, xjn, xbl, xrg, xod, xnu) p0 :=
  br_t ho ⟨hw, nm_r (e' := 18) hp (br_t (by decide) (br_t (by decide) (br_t (by decide) ⟨hw, nm_r hcu (br_f (by decide) (br_f (by decide) (br_f (by decide) (br_f (by decide) (br_f (by decide) (br_f (by decide) (br_t rfl ⟨ht, nm_e ⟨hw, nm_e K⟩⟩)))))))⟩)))⟩
theorem xw_sig0 {p : Int32} (hw : vp_in p0 4) (hpi : vp_in p 48) (hc : xjn p.toNatClampNeg - 1 = 0) (K : post (k0, k1, k2, k3, k4, k5, k6, k7, k8, k9, k10, k11, k12, k13, k14, k15, k16, k17, k18, k19, fwc, frg, flm, fst, fgv, fov, ffl, fmd, fwd, xlo, xla, xlb, xll, xce, xlc, xtop, xbot, xslo, xaim, upd xph p0.toNatClampNeg 17, upd xcu p0.toNatClampNeg p, xhe, xit, xst, xsb, xpv, xtr, xpr, xar, xpa, xfk, xlk, xnk, xow, xki, xfo, xre, xbe, xck, xru, xpc, upd xjn p.toNatClampNeg (xjn p.toNatClampNeg - 1), xbl, xrg, xod, xnu)) : wpX_signal post (k0, k1, k2, k3, k4, k5, k6, k7, k8, k9, k10, k11, k12, k13, k14, k15, k16, k17, k18, k19, fwc, frg, flm, fst, fgv, fov, ffl, fmd, fwd, xlo, xla, xlb, xll, xce, xlc, xtop, xbot, xslo, xaim, xph, xcu, xhe, xit, xst, xsb, xpv, xtr, xpr, xar, xpa, xfk, xlk, xnk, xow, xki, xfo, xre, xbe, xck, xru, xpc, xjn, xbl, xrg, xod, xnu) p0 p :=
  ⟨hpi, ⟨hpi, nm_e ⟨hpi, br_t (by rw [us_s]; exact hc) ⟨hw, nm_e ⟨hw, nm_e K⟩⟩⟩⟩⟩
theorem xw_sig1 {p : Int32} (hw : vp_in p0 4) (hpi : vp_in p 48) (hc : ¬ xjn p.toNatClampNeg - 1 = 0) (K : wpX_rest post (k0, k1, k2, k3, k4, k5, k6, k7, k8, k9, k10, k11, k12, k13, k14, k15, k16, k17, k18, k19, fwc, frg, flm, fst, fgv, fov, ffl, fmd, fwd, xlo, xla, xlb, xll, xce, xlc, xtop, xbot, xslo, xaim, xph, xcu, xhe, xit, xst, xsb, xpv, xtr, xpr, xar, xpa, xfk, xlk, xnk, xow, xki, xfo, xre, xbe, xck, xru, xpc, upd xjn p.toNatClampNeg (xjn p.toNatClampNeg - 1), xbl, xrg, xod, xnu) p0) : wpX_signal post (k0, k1, k2, k3, k4, k5, k6, k7, k8, k9, k10, k11, k12, k13, k14, k15, k16, k17, k18, k19, fwc, frg, flm, fst, fgv, fov, ffl, fmd, fwd, xlo, xla, xlb, xll, xce, xlc, xtop, xbot, xslo, xaim, xph, xcu, xhe, xit, xst, xsb, xpv, xtr, xpr, xar, xpa, xfk, xlk, xnk, xow, xki, xfo, xre, xbe, xck, xru, xpc, xjn, xbl, xrg, xod, xnu) p0 p :=
  ⟨hpi, ⟨hpi, nm_e ⟨hpi, br_f (by rw [us_s]; exact hc) K⟩⟩⟩
theorem xw_19 {t : Int32} (ho : fov = 0) (hw : vp_in p0 4) (hp : xph p0.toNatClampNeg = 19) (hcu : xcu p0.toNatClampNeg = t) (ht : vp_in t 48) {p : Int32} (hpa : xpa t.toNatClampNeg = p) (K : wpX_signal post (k0, k1, k2, k3, k4, k5, k6, k7, k8, k9, k10, k11, k12, k13, k14, k15, k16, k17, k18, k19, fwc, frg, flm, fst, fgv, fov, ffl, fmd, fwd, xlo, xla, xlb, xll, xce, xlc, xtop, xbot, xslo, xaim, xph, xcu, xhe, xit, xst, xsb, xpv, xtr, xpr, xar, xpa, xfk, xlk, xnk, xow, xki, xfo, xre, xbe, xck, xru, xpc, xjn, xbl, xrg, xod, xnu) p0 p) : wpX_step post (k0, k1, k2, k3, k4, k5, k6, k7, k8, k9, k10, k11, k12, k13, k14, k15, k16, k17, k18, k19, fwc, frg, flm, fst, fgv, fov, ffl, fmd, fwd, xlo, xla, xlb, xll, xce, xlc, xtop, xbot, xslo, xaim, xph, xcu, xhe, xit, xst, xsb, xpv, xtr, xpr, xar, xpa, xfk, xlk, xnk, xow, xki, xfo, xre, xbe, xck, xru, xpc, xjn, xbl, xrg, xod, xnu) p0 := by
  subst hpa
  exact br_t ho ⟨hw, nm_r (e' := 19) hp (br_t (by decide) (br_t (by decide) (br_t (by decide) ⟨hw, nm_r hcu (br_f (by decide) (br_t (by decide) ⟨ht, K⟩))⟩)))⟩
/-! one line -/
theorem xl_end {t pr pc : Int32} (hw : vp_in p0 4) (ht : vp_in t 48) (e1 : xpr t.toNatClampNeg = pr) (e2 : xpc t.toNatClampNeg = pc) (hpr : vp_in pr 4) (hc : ¬ pc < xll pr.toNatClampNeg) (K : post (k0, k1, k2, k3, k4, k5, k6, k7, k8, k9, k10, k11, k12, k13, k14, k15, k16, k17, k18, k19, fwc, frg, flm, fst, fgv, fov, ffl, fmd, fwd, xlo, xla, xlb, xll, xce, xlc, xtop, xbot, xslo, xaim, upd xph p0.toNatClampNeg 16, xcu, xhe, xit, xst, xsb, xpv, xtr, xpr, xar, xpa, xfk, xlk, xnk, xow, xki, xfo, xre, xbe, xck, xru, xpc, xjn, xbl, xrg, xod, xnu)) : wpX_runLine post (k0, k1, k2, k3, k4, k5, k6, k7, k8, k9, k10, k11, k12, k13, k14, k15, k16, k17, k18, k19, fwc, frg, flm, fst, fgv, fov, ffl, fmd, fwd, xlo, xla, xlb, xll, xce, xlc, xtop, xbot, xslo, xaim, xph, xcu, xhe, xit, xst, xsb, xpv, xtr, xpr, xar, xpa, xfk, xlk, xnk, xow, xki, xfo, xre, xbe, xck, xru, xpc, xjn, xbl, xrg, xod, xnu) p0 t :=
  ⟨ht, nm_r e1 ⟨ht, nm_r e2 ⟨hpr, br_f hc ⟨hw, nm_e K⟩⟩⟩⟩
theorem xl_wait {t pr pc ln op : Int32} (hw : vp_in p0 4) (ht : vp_in t 48) (e1 : xpr t.toNatClampNeg = pr) (e2 : xpc t.toNatClampNeg = pc) (hpr : vp_in pr 4) (hc : pc < xll pr.toNatClampNeg) (e3 : pr * 10 + pc = ln) (hl : vp_in ln 40) (e4 : xlo ln.toNatClampNeg = op) (ho : op = 9 ∨ op = 11) (K : post (k0, k1, k2, k3, k4, k5, k6, k7, k8, k9, k10, k11, k12, k13, k14, k15, k16, k17, k18, k19, fwc, frg, flm, fst, fgv, fov, ffl, fmd, fwd, xlo, xla, xlb, xll, xce, xlc, xtop, xbot, xslo, xaim, upd xph p0.toNatClampNeg 16, xcu, xhe, xit, xst, xsb, xpv, xtr, xpr, xar, xpa, xfk, xlk, xnk, xow, xki, xfo, xre, xbe, xck, xru, xpc, xjn, xbl, xrg, xod, xnu)) : wpX_runLine post (k0, k1, k2, k3, k4, k5, k6, k7, k8, k9, k10, k11, k12, k13, k14, k15, k16, k17, k18, k19, fwc, frg, flm, fst, fgv, fov, ffl, fmd, fwd, xlo, xla, xlb, xll, xce, xlc, xtop, xbot, xslo, xaim, xph, xcu, xhe, xit, xst, xsb, xpv, xtr, xpr, xar, xpa, xfk, xlk, xnk, xow, xki, xfo, xre, xbe, xck, xru, xpc, xjn, xbl, xrg, xod, xnu) p0 t :=
  ⟨ht, nm_r e1 ⟨ht, nm_r e2 ⟨hpr, br_t hc (nm_r e3 ⟨hl, nm_r e4 (br_c (fun _ => ⟨hw, nm_e K⟩) (fun z => br_t (ho.elim (fun y => absurd y z) id) ⟨hw, nm_e K⟩))⟩)⟩⟩⟩
theorem xl_fail {t pr pc ln : Int32} (ht : vp_in t 48) (e1 : xpr t.toNatClampNeg = pr) (e2 : xpc t.toNatClampNeg = pc) (hpr : vp_in pr 4) (hc : pc < xll pr.toNatClampNeg) (e3 : pr * 10 + pc = ln) (hl : vp_in ln 40) (e4 : xlo ln.toNatClampNeg = 8) (hf : ¬ fmd < flm) (K : post (k0, k1, k2, k3, k4, k5, k6, k7, k8, k9, k10, k11, k12, k13, k14, k15, k16, k17, k18, k19, fwc, frg, flm, fst, fgv, 1, 1, fmd, fwd, xlo, xla, xlb, xll, xce, xlc, xtop, xbot, xslo, xaim, xph, xcu, xhe, xit, xst, xsb, xpv, xtr, xpr, xar, xpa, xfk, xlk, xnk, xow, xki, xfo, xre, xbe, xck, xru, xpc, xjn, xbl, xrg, xod, xnu)) : wpX_runLine post (k0, k1, k2, k3, k4, k5, k6, k7, k8, k9, k10, k11, k12, k13, k14, k15, k16, k17, k18, k19, fwc, frg, flm, fst, fgv, fov, ffl, fmd, fwd, xlo, xla, xlb, xll, xce, xlc, xtop, xbot, xslo, xaim, xph, xcu, xhe, xit, xst, xsb, xpv, xtr, xpr, xar, xpa, xfk, xlk, xnk, xow, xki, xfo, xre, xbe, xck, xru, xpc, xjn, xbl, xrg, xod, xnu) p0 t :=
  ⟨ht, nm_r e1 ⟨ht, nm_r e2 ⟨hpr, br_t hc (nm_r e3 ⟨hl, nm_r (e' := 8) e4 (br_f (by decide) (br_f (by decide) (br_t rfl (br_f hf K))))⟩)⟩⟩⟩
theorem xl_105 {t pr pc ln op : Int32} (ht : vp_in t 48) (e1 : xpr t.toNatClampNeg = pr) (e2 : xpc t.toNatClampNeg = pc) (hpr : vp_in pr 4) (hc : pc < xll pr.toNatClampNeg) (e3 : pr * 10 + pc = ln) (hl : vp_in ln 40) (e4 : xlo ln.toNatClampNeg = op) (h9 : ¬ op = 9) (h11 : ¬ op = 11) (h8 : op = 8 → fmd < flm) (K : wX_runLine_105 post p0 t pc ln op k0 k1 k2 k3 k4 k5 k6 k7 k8 k9 k10 k11 k12 k13 k14 k15 k16 k17 k18 k19 fwc frg flm fst fgv fov ffl fmd fwd xlo xla xlb xll xce xlc xtop xbot xslo xaim xph xcu xhe xit xst xsb xpv xtr xpr xar xpa xfk xlk xnk xow xki xfo xre xbe xck xru xpc xjn xbl xrg xod xnu) : wpX_runLine post (k0, k1, k2, k3, k4, k5, k6, k7, k8, k9, k10, k11, k12, k13, k14, k15, k16, k17, k18, k19, fwc, frg, flm, fst, fgv, fov, ffl, fmd, fwd, xlo, xla, xlb, xll, xce, xlc, xtop, xbot, xslo, xaim, xph, xcu, xhe, xit, xst, xsb, xpv, xtr, xpr, xar, xpa, xfk, xlk, xnk, xow, xki, xfo, xre, xbe, xck, xru, xpc, xjn, xbl, xrg, xod, xnu) p0 t :=
  ⟨ht, nm_r e1 ⟨ht, nm_r e2 ⟨hpr, br_t hc (nm_r e3 ⟨hl, nm_r e4 (br_f h9 (br_f h11 (br_c (fun z => br_t (h8 z) K) (fun _ => K))))⟩)⟩⟩⟩
theorem xl_tally {t pc ln a b : Int32} (ht : vp_in t 48) (hl : vp_in ln 40) (ea : xla ln.toNatClampNeg = a) (eb : t * 4 + xlb ln.toNatClampNeg = b) (ha : vp_in a 4) (hb : vp_in b 192) (K : post (k0, k1, k2, k3, k4, k5, k6, k7, k8, k9, k10, k11, k12, k13, k14, k15, k16, k17, k18, k19, fwc, frg, flm, fst, fgv, fov, ffl, fmd, fwd + 1, xlo, xla, xlb, xll, upd xce a.toNatClampNeg (xce a.toNatClampNeg + xrg b.toNatClampNeg), upd xlc ln.toNatClampNeg (xlc ln.toNatClampNeg + 1), xtop, xbot, xslo, xaim, xph, xcu, xhe, xit, xst, xsb, xpv, xtr, xpr, xar, xpa, xfk, xlk, xnk, xow, xki, xfo, xre, xbe, upd xck t.toNatClampNeg (xck t.toNatClampNeg + 1), xru, upd xpc t.toNatClampNeg (pc + 1), xjn, xbl, xrg, xod, xnu)) : wX_runLine_105 post p0 t pc ln 10 k0 k1 k2 k3 k4 k5 k6 k7 k8 k9 k10 k11 k12 k13 k14 k15 k16 k17 k18 k19 fwc frg flm fst fgv fov ffl fmd fwd xlo xla xlb xll xce xlc xtop xbot xslo xaim xph xcu xhe xit xst xsb xpv xtr xpr xar xpa xfk xlk xnk xow xki xfo xre xbe xck xru xpc xjn xbl xrg xod xnu := by
  subst ea eb
  exact ⟨hl, ⟨hl, nm_e (nm_e ⟨ht, ⟨ht, nm_e ⟨ht, nm_e (br_f (by decide) (br_t rfl ⟨hl, ⟨ha, ⟨hl, ⟨hb, ⟨ha, nm_e K⟩⟩⟩⟩⟩))⟩⟩⟩)⟩⟩
theorem xl_test {t pc ln op a : Int32} (ht : vp_in t 48) (hl : vp_in ln 40) (ea : t * 4 + xla ln.toNatClampNeg = a) (ha : vp_in a 192) (eo : xlo ln.toNatClampNeg = op) (ho : op = 6 ∨ op = 7)
    (hc : ∀ z : Int32, (z = 0 ↔ ¬ ((op = 6 ∧ xrg a.toNatClampNeg < xlb ln.toNatClampNeg) ∨ (op = 7 ∧ xrg a.toNatClampNeg = xlb ln.toNatClampNeg))) → wX_test_60 post t z k0 k1 k2 k3 k4 k5 k6 k7 k8 k9 k10 k11 k12 k13 k14 k15 k16 k17 k18 k19 fwc frg flm fst fgv fov ffl fmd (fwd + 1) xlo xla xlb xll xce (upd xlc ln.toNatClampNeg (xlc ln.toNatClampNeg + 1)) xtop xbot xslo xaim xph xcu xhe xit xst xsb xpv xtr xpr xar xpa xfk xlk xnk xow xki xfo xre xbe (upd xck t.toNatClampNeg (xck t.toNatClampNeg + 1)) xru (upd xpc t.toNatClampNeg (pc + 1)) xjn xbl xrg xod xnu) : wX_runLine_105 post p0 t pc ln op k0 k1 k2 k3 k4 k5 k6 k7 k8 k9 k10 k11 k12 k13 k14 k15 k16 k17 k18 k19 fwc frg flm fst fgv fov ffl fmd fwd xlo xla xlb xll xce xlc xtop xbot xslo xaim xph xcu xhe xit xst xsb xpv xtr xpr xar xpa xfk xlk xnk xow xki xfo xre xbe xck xru xpc xjn xbl xrg xod xnu := by
  subst ea
  have n8 : ¬ op = 8 := by rcases ho with z | z <;> (rw [z]; decide)
  have n10 : ¬ op = 10 := by rcases ho with z | z <;> (rw [z]; decide)
  have T : wX_runLine_204 post t ln k0 k1 k2 k3 k4 k5 k6 k7 k8 k9 k10 k11 k12 k13 k14 k15 k16 k17 k18 k19 fwc frg flm fst fgv fov ffl fmd (fwd + 1) xlo xla xlb xll xce (upd xlc ln.toNatClampNeg (xlc ln.toNatClampNeg + 1)) xtop xbot xslo xaim xph xcu xhe xit xst xsb xpv xtr xpr xar xpa xfk xlk xnk xow xki xfo xre xbe (upd xck t.toNatClampNeg (xck t.toNatClampNeg + 1)) xru (upd xpc t.toNatClampNeg (pc + 1)) xjn xbl xrg xod xnu :=
    ⟨hl, ⟨ha, nm_e ⟨hl, br_c (fun h6 => ⟨hl, br_c (fun q => hc 0 ⟨fun _ => by
      rintro (⟨_, z⟩ | ⟨z, _⟩)
      · exact absurd q (Int32.not_le.mpr z)
      · rw [← eo, h6] at z; exact absurd z (by decide), fun _ => rfl⟩) (fun q => hc 1 ⟨fun z => absurd z (by decide), fun z => absurd (Or.inl ⟨eo.symm.trans h6, Int32.not_le.mp q⟩) z⟩)⟩) (fun h6 => ⟨hl, br_c (fun q => hc 1 ⟨fun z => absurd z (by decide), fun z => absurd (Or.inr ⟨ho.elim (fun y => absurd (eo.trans y) h6) id, q⟩) z⟩) (fun q => hc 0 ⟨fun _ => by
      rintro (⟨z, _⟩ | ⟨_, z⟩)
      · exact h6 (eo.trans z)
      · exact q z, fun _ => rfl⟩)⟩)⟩⟩⟩
  exact ⟨hl, ⟨hl, nm_e (nm_e ⟨ht, ⟨ht, nm_e ⟨ht, nm_e (br_f n8 (br_f n10 (br_c (fun _ => T) (fun h6 => br_t (ho.elim (fun y => absurd y h6) id) T))))⟩⟩⟩)⟩⟩
theorem xl_test0 {t : Int32} (ht : vp_in t 48) (K : post (k0, k1, k2, k3, k4, k5, k6, k7, k8, k9, k10, k11, k12, k13, k14, k15, k16, k17, k18, k19, fwc, frg, flm, fst, fgv, fov, ffl, fmd, fwd, xlo, xla, xlb, xll, xce, xlc, xtop, xbot, xslo, xaim, xph, xcu, xhe, xit, xst, xsb, xpv, xtr, xpr, xar, xpa, xfk, xlk, xnk, xow, xki, xfo, xre, xbe, xck, xru, upd xpc t.toNatClampNeg (xpc t.toNatClampNeg + 1), xjn, xbl, xrg, xod, xnu)) : wX_test_60 post t 0 k0 k1 k2 k3 k4 k5 k6 k7 k8 k9 k10 k11 k12 k13 k14 k15 k16 k17 k18 k19 fwc frg flm fst fgv fov ffl fmd fwd xlo xla xlb xll xce xlc xtop xbot xslo xaim xph xcu xhe xit xst xsb xpv xtr xpr xar xpa xfk xlk xnk xow xki xfo xre xbe xck xru xpc xjn xbl xrg xod xnu := br_t rfl ⟨ht, ⟨ht, nm_e K⟩⟩
theorem xl_test1 {t z : Int32} (hz : ¬ z = 0) (K : post (k0, k1, k2, k3, k4, k5, k6, k7, k8, k9, k10, k11, k12, k13, k14, k15, k16, k17, k18, k19, fwc, frg, flm, fst, fgv, fov, ffl, fmd, fwd, xlo, xla, xlb, xll, xce, xlc, xtop, xbot, xslo, xaim, xph, xcu, xhe, xit, xst, xsb, xpv, xtr, xpr, xar, xpa, xfk, xlk, xnk, xow, xki, xfo, xre, xbe, xck, xru, xpc, xjn, xbl, xrg, xod, xnu)) : wX_test_60 post t z k0 k1 k2 k3 k4 k5 k6 k7 k8 k9 k10 k11 k12 k13 k14 k15 k16 k17 k18 k19 fwc frg flm fst fgv fov ffl fmd fwd xlo xla xlb xll xce xlc xtop xbot xslo xaim xph xcu xhe xit xst xsb xpv xtr xpr xar xpa xfk xlk xnk xow xki xfo xre xbe xck xru xpc xjn xbl xrg xod xnu := br_f hz K
/-- SET, COPY, ADD, SUB, MUL, INC -/
theorem xl_comp {t pc ln op a : Int32} {bv : Int32} (ht : vp_in t 48) (hl : vp_in ln 40) (ea : t * 4 + xla ln.toNatClampNeg = a) (ha : vp_in a 192) (eo : xlo ln.toNatClampNeg = op) (h0 : ¬ op < 0) (h5 : ¬ 5 < op)
    (hb : op = 1 ∨ op = 2 ∨ op = 3 ∨ op = 4 → vp_in (t * 4 + xlb ln.toNatClampNeg) 192 ∧ xrg (t * 4 + xlb ln.toNatClampNeg).toNatClampNeg = bv)
    (K : post (k0, k1, k2, k3, k4, k5, k6, k7, k8, k9, k10, k11, k12, k13, k14, k15, k16, k17, k18, k19, fwc, frg, flm, fst, fgv, fov, ffl, fmd, fwd + 1, xlo, xla, xlb, xll, xce, upd xlc ln.toNatClampNeg (xlc ln.toNatClampNeg + 1), xtop, xbot, xslo, xaim, xph, xcu, xhe, xit, xst, xsb, xpv, xtr, xpr, xar, xpa, xfk, xlk, xnk, xow, xki, xfo, xre, xbe, upd xck t.toNatClampNeg (xck t.toNatClampNeg + 1), xru, upd xpc t.toNatClampNeg (pc + 1), xjn, xbl, upd xrg a.toNatClampNeg (zl_cv op (xrg a.toNatClampNeg) bv (xlb ln.toNatClampNeg)), xod, xnu)) : wX_runLine_105 post p0 t pc ln op k0 k1 k2 k3 k4 k5 k6 k7 k8 k9 k10 k11 k12 k13 k14 k15 k16 k17 k18 k19 fwc frg flm fst fgv fov ffl fmd fwd xlo xla xlb xll xce xlc xtop xbot xslo xaim xph xcu xhe xit xst xsb xpv xtr xpr xar xpa xfk xlk xnk xow xki xfo xre xbe xck xru xpc xjn xbl xrg xod xnu := by
  subst ea
  have h0' : 0 ≤ op := Int32.not_lt.mp h0
  obtain ⟨j, hj, rfl⟩ : ∃ j : Nat, j ≤ 5 ∧ op = nI j := nI_of2 (M := 5) (n := 5) (by decide) h0 (Int32.not_lt.mp h5)
  have n8 : ¬ nI j = 8 := by intro z; have := (nI_eq (a := j) (b := 8) (by omega) (by omega)).mp z; omega
  have n10 : ¬ nI j = 10 := by intro z; have := (nI_eq (a := j) (b := 10) (by omega) (by omega)).mp z; omega
  have n6 : ¬ nI j = 6 := by intro z; have := (nI_eq (a := j) (b := 6) (by omega) (by omega)).mp z; omega
  have n7 : ¬ nI j = 7 := by intro z; have := (nI_eq (a := j) (b := 7) (by omega) (by omega)).mp z; omega
  refine ⟨hl, ⟨hl, nm_e (nm_e ⟨ht, ⟨ht, nm_e ⟨ht, nm_e (br_f n8 (br_f n10 (br_f n6 (br_f n7 ?_))))⟩⟩⟩)⟩⟩
  refine nm_e ⟨hl, nm_e ⟨hl, nm_e ⟨hl, nm_r eo (br_f h0 ?_)⟩⟩⟩
  have jc : j = 0 ∨ j = 1 ∨ j = 2 ∨ j = 3 ∨ j = 4 ∨ j = 5 := by omega
  rcases jc with rfl | rfl | rfl | rfl | rfl | rfl
  · exact br_f (by decide) (br_t rfl ⟨ha, nm_e K⟩)
  · obtain ⟨b1, b2⟩ := hb (Or.inl rfl)
    subst b2
    exact br_f (by decide) (br_f (by decide) (br_t rfl ⟨b1, ⟨ha, nm_e K⟩⟩))
  · obtain ⟨b1, b2⟩ := hb (Or.inr (Or.inl rfl))
    subst b2
    exact br_f (by decide) (br_f (by decide) (br_f (by decide) (br_t rfl ⟨ha, ⟨b1, ⟨ha, nm_e K⟩⟩⟩)))
  · obtain ⟨b1, b2⟩ := hb (Or.inr (Or.inr (Or.inl rfl)))
    subst b2
    exact br_f (by decide) (br_f (by decide) (br_f (by decide) (br_f (by decide) (br_t rfl ⟨ha, ⟨b1, ⟨ha, nm_e K⟩⟩⟩))))
  · obtain ⟨b1, b2⟩ := hb (Or.inr (Or.inr (Or.inr rfl)))
    subst b2
    exact br_f (by decide) (br_f (by decide) (br_f (by decide) (br_f (by decide) (br_f (by decide) (br_t rfl ⟨ha, ⟨b1, ⟨ha, nm_e K⟩⟩⟩)))))
  · exact br_t (by decide) ⟨ha, ⟨ha, nm_e K⟩⟩
/-- a task is made -/
theorem xl_make {post : Int32 → SX → Prop} {q0 q1 q2 q3 b : Int32} (hm : vp_in fmd 48) (eb : fmd * 4 = b) (hb : vp_in b 192 ∧ vp_in (b + 1) 192 ∧ vp_in (b + 2) 192 ∧ vp_in (b + 3) 192)
    (K : post fmd (k0, k1, k2, k3, k4, k5, k6, k7, k8, k9, k10, k11, k12, k13, k14, k15, k16, k17, k18, k19, fwc, frg, flm, fst, fgv, fov, ffl, fmd + 1, fwd, xlo, xla, xlb, xll, xce, xlc, xtop, xbot, xslo, xaim, xph, xcu, xhe, xit, xst, xsb, xpv, xtr, upd xpr fmd.toNatClampNeg q0, upd xar fmd.toNatClampNeg q1, upd xpa fmd.toNatClampNeg q2, upd xfk fmd.toNatClampNeg (-1), upd xlk fmd.toNatClampNeg (-1), upd xnk fmd.toNatClampNeg (-1), upd xow fmd.toNatClampNeg (-1), upd xki fmd.toNatClampNeg 0, upd xfo fmd.toNatClampNeg 0, upd xre fmd.toNatClampNeg 0, upd xbe fmd.toNatClampNeg q3, upd xck fmd.toNatClampNeg q3, upd xru fmd.toNatClampNeg 0, upd xpc fmd.toNatClampNeg 0, upd xjn fmd.toNatClampNeg 1, upd xbl fmd.toNatClampNeg (-1), upd (upd (upd (upd xrg b.toNatClampNeg q1) (b + 1).toNatClampNeg 0) (b + 2).toNatClampNeg 0) (b + 3).toNatClampNeg 0, xod, xnu)) : wpX_makeTask post (k0, k1, k2, k3, k4, k5, k6, k7, k8, k9, k10, k11, k12, k13, k14, k15, k16, k17, k18, k19, fwc, frg, flm, fst, fgv, fov, ffl, fmd, fwd, xlo, xla, xlb, xll, xce, xlc, xtop, xbot, xslo, xaim, xph, xcu, xhe, xit, xst, xsb, xpv, xtr, xpr, xar, xpa, xfk, xlk, xnk, xow, xki, xfo, xre, xbe, xck, xru, xpc, xjn, xbl, xrg, xod, xnu) q0 q1 q2 q3 := by
  refine nm_e ⟨hm, nm_e ⟨hm, nm_e ⟨hm, nm_e ⟨hm, nm_e ⟨hm, nm_e ⟨hm, nm_e ⟨hm, nm_e ⟨hm, nm_e ⟨hm, nm_e ⟨hm, nm_e ⟨hm, nm_e ⟨hm, nm_e ⟨hm, nm_e ⟨hm, nm_e ⟨hm, nm_e ⟨hm, nm_e (nm_r eb ⟨hb.1, nm_e ⟨4, ?_⟩⟩)⟩⟩⟩⟩⟩⟩⟩⟩⟩⟩⟩⟩⟩⟩⟩⟩
  exact br_f (by decide) ⟨hb.2.1, nm_e (nm_r (e' := 2) rfl (br_f (by decide) ⟨hb.2.2.1, nm_e (nm_r (e' := 3) rfl (br_f (by decide) ⟨hb.2.2.2, nm_e (nm_r (e' := 4) rfl (br_t (by decide) K))⟩))⟩))⟩
end
end
section
/-! the component: spawn, catching up, folding, completing -/
section
variable {post : SX → Prop} {k0 k1 k2 k3 k4 k5 k6 k7 k8 k9 k10 k11 k12 k13 k14 k15 k16 k17 k18 k19 fwc frg flm fst fgv fov ffl fmd fwd : Int32} {xlo xla xlb xll xce xlc xtop xbot xslo xaim xph xcu xhe xit xst xsb xpv xtr xpr xar xpa xfk xlk xnk xow xki xfo xre xbe xck xru xpc xjn xbl xrg xod xnu : Nat → Int32} {p0 : Int32}
theorem xl_spw {t pc ln : Int32} (ht : vp_in t 48) (hl : vp_in ln 40) (K : wpX_spawn post (k0, k1, k2, k3, k4, k5, k6, k7, k8, k9, k10, k11, k12, k13, k14, k15, k16, k17, k18, k19, fwc, frg, flm, fst, fgv, fov, ffl, fmd, fwd + 1, xlo, xla, xlb, xll, xce, upd xlc ln.toNatClampNeg (xlc ln.toNatClampNeg + 1), xtop, xbot, xslo, xaim, xph, xcu, xhe, xit, xst, xsb, xpv, xtr, xpr, xar, xpa, xfk, xlk, xnk, xow, xki, xfo, xre, xbe, upd xck t.toNatClampNeg (xck t.toNatClampNeg + 1), xru, upd xpc t.toNatClampNeg (pc + 1), xjn, xbl, xrg, xod, xnu) p0 t ln) : wX_runLine_105 post p0 t pc ln 8 k0 k1 k2 k3 k4 k5 k6 k7 k8 k9 k10 k11 k12 k13 k14 k15 k16 k17 k18 k19 fwc frg flm fst fgv fov ffl fmd fwd xlo xla xlb xll xce xlc xtop xbot xslo xaim xph xcu xhe xit xst xsb xpv xtr xpr xar xpa xfk xlk xnk xow xki xfo xre xbe xck xru xpc xjn xbl xrg xod xnu :=
  ⟨hl, ⟨hl, nm_e (nm_e ⟨ht, ⟨ht, nm_e ⟨ht, nm_e (br_t rfl K)⟩⟩⟩)⟩⟩
theorem xl_spawn {t ln b : Int32} (hw : vp_in p0 4) (ht : vp_in t 48) (hl : vp_in ln 40) (hbi : vp_in (t * 4 + xlb ln.toNatClampNeg) 192) (hm : vp_in fmd 48) (eb : fmd * 4 = b) (hb : vp_in b 192 ∧ vp_in (b + 1) 192 ∧ vp_in (b + 2) 192 ∧ vp_in (b + 3) 192) (ne : t.toNatClampNeg ≠ fmd.toNatClampNeg) (hlk : 0 ≤ xfk t.toNatClampNeg → vp_in (xlk t.toNatClampNeg) 48)
    (K : ∀ fk' nk' ow' : Nat → Int32, ((0 ≤ xfk t.toNatClampNeg ∧ fk' = upd xfk fmd.toNatClampNeg (-1) ∧ nk' = upd (upd xnk fmd.toNatClampNeg (-1)) (xlk t.toNatClampNeg).toNatClampNeg fmd) ∨ (¬ 0 ≤ xfk t.toNatClampNeg ∧ fk' = upd (upd xfk fmd.toNatClampNeg (-1)) t.toNatClampNeg fmd ∧ nk' = upd xnk fmd.toNatClampNeg (-1))) → ((0 ≤ xow t.toNatClampNeg ∧ ow' = upd xow fmd.toNatClampNeg (-1)) ∨ (¬ 0 ≤ xow t.toNatClampNeg ∧ ow' = upd (upd xow fmd.toNatClampNeg (-1)) t.toNatClampNeg fmd)) →
      post (k0, k1, k2, k3, k4, k5, k6, k7, k8, k9, k10, k11, k12, k13, k14, k15, k16, k17, k18, k19, fwc, frg, flm, fst, fgv, fov, ffl, fmd + 1, fwd, xlo, xla, xlb, xll, xce, xlc, xtop, xbot, xslo, xaim, upd xph p0.toNatClampNeg 15, xcu, xhe, upd xit p0.toNatClampNeg fmd, xst, xsb, xpv, xtr, upd xpr fmd.toNatClampNeg (xla ln.toNatClampNeg), upd xar fmd.toNatClampNeg (xrg (t * 4 + xlb ln.toNatClampNeg).toNatClampNeg), upd xpa fmd.toNatClampNeg t, fk', upd (upd xlk fmd.toNatClampNeg (-1)) t.toNatClampNeg fmd, nk', ow', upd (upd xki fmd.toNatClampNeg 0) t.toNatClampNeg (upd xki fmd.toNatClampNeg 0 t.toNatClampNeg + 1), upd xfo fmd.toNatClampNeg 0, upd xre fmd.toNatClampNeg 0, upd xbe fmd.toNatClampNeg (xck t.toNatClampNeg), upd xck fmd.toNatClampNeg (xck t.toNatClampNeg), upd xru fmd.toNatClampNeg 0, upd xpc fmd.toNatClampNeg 0, upd xjn fmd.toNatClampNeg 1, upd xbl fmd.toNatClampNeg (-1), upd (upd (upd (upd xrg b.toNatClampNeg (xrg (t * 4 + xlb ln.toNatClampNeg).toNatClampNeg)) (b + 1).toNatClampNeg 0) (b + 2).toNatClampNeg 0) (b + 3).toNatClampNeg 0, xod, xnu)) : wpX_spawn post (k0, k1, k2, k3, k4, k5, k6, k7, k8, k9, k10, k11, k12, k13, k14, k15, k16, k17, k18, k19, fwc, frg, flm, fst, fgv, fov, ffl, fmd, fwd, xlo, xla, xlb, xll, xce, xlc, xtop, xbot, xslo, xaim, xph, xcu, xhe, xit, xst, xsb, xpv, xtr, xpr, xar, xpa, xfk, xlk, xnk, xow, xki, xfo, xre, xbe, xck, xru, xpc, xjn, xbl, xrg, xod, xnu) p0 t ln := by
  refine ⟨hl, ⟨hbi, nm_e ⟨hl, ⟨ht, xl_make hm eb hb ?_⟩⟩⟩⟩
  have J : ∀ fk' nk' : Nat → Int32, ((0 ≤ xfk t.toNatClampNeg ∧ fk' = upd xfk fmd.toNatClampNeg (-1) ∧ nk' = upd (upd xnk fmd.toNatClampNeg (-1)) (xlk t.toNatClampNeg).toNatClampNeg fmd) ∨ (¬ 0 ≤ xfk t.toNatClampNeg ∧ fk' = upd (upd xfk fmd.toNatClampNeg (-1)) t.toNatClampNeg fmd ∧ nk' = upd xnk fmd.toNatClampNeg (-1))) → wX_spawn_71 post p0 t fmd k0 k1 k2 k3 k4 k5 k6 k7 k8 k9 k10 k11 k12 k13 k14 k15 k16 k17 k18 k19 fwc frg flm fst fgv fov ffl (fmd + 1) fwd xlo xla xlb xll xce xlc xtop xbot xslo xaim xph xcu xhe xit xst xsb xpv xtr (upd xpr fmd.toNatClampNeg (xla ln.toNatClampNeg)) (upd xar fmd.toNatClampNeg (xrg (t * 4 + xlb ln.toNatClampNeg).toNatClampNeg)) (upd xpa fmd.toNatClampNeg t) fk' (upd xlk fmd.toNatClampNeg (-1)) nk' (upd xow fmd.toNatClampNeg (-1)) (upd xki fmd.toNatClampNeg 0) (upd xfo fmd.toNatClampNeg 0) (upd xre fmd.toNatClampNeg 0) (upd xbe fmd.toNatClampNeg (xck t.toNatClampNeg)) (upd xck fmd.toNatClampNeg (xck t.toNatClampNeg)) (upd xru fmd.toNatClampNeg 0) (upd xpc fmd.toNatClampNeg 0) (upd xjn fmd.toNatClampNeg 1) (upd xbl fmd.toNatClampNeg (-1)) (upd (upd (upd (upd xrg b.toNatClampNeg (xrg (t * 4 + xlb ln.toNatClampNeg).toNatClampNeg)) (b + 1).toNatClampNeg 0) (b + 2).toNatClampNeg 0) (b + 3).toNatClampNeg 0) xod xnu := by
    intro fk' nk' hf
    refine ⟨ht, nm_e ⟨ht, br_c (fun z => ⟨ht, ⟨ht, nm_e ⟨hw, nm_e ⟨hw, nm_e (K fk' nk' _ hf (Or.inl ⟨?_, rfl⟩))⟩⟩⟩⟩) (fun z => ⟨ht, nm_e ⟨ht, ⟨ht, nm_e ⟨hw, nm_e ⟨hw, nm_e (K fk' nk' _ hf (Or.inr ⟨?_, rfl⟩))⟩⟩⟩⟩⟩)⟩⟩
    · rw [us_n ne] at z; exact z
    · rw [us_n ne] at z; exact z
  refine ⟨ht, br_c (fun z => ?_) (fun z => ?_)⟩
  · rw [us_n ne] at z
    refine ⟨ht, ⟨?_, nm_e (J _ _ (Or.inl ⟨z, rfl, ?_⟩))⟩⟩
    · rw [us_n ne]; exact hlk z
    · rw [us_n ne]
  · rw [us_n ne] at z
    exact ⟨ht, nm_e (J _ _ (Or.inr ⟨z, rfl, rfl⟩))⟩
theorem xw_cul {t n : Nat} {kk : Nat → Nat} (ht : t < 48) (hk : ∀ k, k < n → kk k < 48 ∧ kk k ≠ t ∧ xnk (kk k) = if k + 1 < n then nI (kk (k + 1)) else -1) : ∀ (d k i : Nat) (c : Int32), k + d = n → i + d ≤ 48 → post (k0, k1, k2, k3, k4, k5, k6, k7, k8, k9, k10, k11, k12, k13, k14, k15, k16, k17, k18, k19, fwc, frg, flm, fst, fgv, fov, ffl, fmd, fwd, xlo, xla, xlb, xll, xce, xlc, xtop, xbot, xslo, xaim, xph, xcu, xhe, xit, xst, xsb, xpv, xtr, xpr, xar, xpa, xfk, xlk, xnk, xow, xki, xfo, xre, xbe, upd xck t (zl_mx (fun k => (xre (kk k), xck (kk k))) c k d), xru, xpc, xjn, xbl, xrg, xod, xnu) → wX_catchUp_9 post (nI t) k0 k1 k2 k3 k4 k5 k6 k7 k8 k9 k10 k11 k12 k13 k14 k15 k16 k17 k18 k19 fwc frg flm fst fgv fov ffl fmd fwd (d + 1) (if k < n then nI (kk k) else -1) (nI i) xlo xla xlb xll xce xlc xtop xbot xslo xaim xph xcu xhe xit xst xsb xpv xtr xpr xar xpa xfk xlk xnk xow xki xfo xre xbe (upd xck t c) xru xpc xjn xbl xrg xod xnu := by
  intro d
  induction d with
  | zero =>
    intro k i c h1 h2 K
    rw [if_neg (by omega)]
    exact br_c (fun _ => K) (fun _ => br_t (by decide) K)
  | succ d ih =>
    intro k i c h1 h2 K
    obtain ⟨a1, a2, a3⟩ := hk k (by omega)
    rw [if_pos (by omega)]
    have c1 : (nI (kk k)).toNatClampNeg = kk k := nI_clamp (by omega)
    have c2 : (nI t).toNatClampNeg = t := nI_clamp (by omega)
    have K' : post (k0, k1, k2, k3, k4, k5, k6, k7, k8, k9, k10, k11, k12, k13, k14, k15, k16, k17, k18, k19, fwc, frg, flm, fst, fgv, fov, ffl, fmd, fwd, xlo, xla, xlb, xll, xce, xlc, xtop, xbot, xslo, xaim, xph, xcu, xhe, xit, xst, xsb, xpv, xtr, xpr, xar, xpa, xfk, xlk, xnk, xow, xki, xfo, xre, xbe, upd xck t (zl_mx (fun k => (xre (kk k), xck (kk k))) (zl_m1 c (xck (kk k))) (k + 1) d), xru, xpc, xjn, xbl, xrg, xod, xnu) := K
    unfold wX_catchUp_9
    simp only [c1, c2, us_s, us_n a2, us_us]
    refine br_f (nI_ge (b := 48) (by omega) (by omega)) (br_f (nI_pos (by omega)) ⟨vp_in_nI a1 (by omega), ⟨vp_in_nI ht (by omega), br_c (fun hc => ⟨vp_in_nI a1 (by omega), nm_r a3 (nm_r (nI_1 i) ?_)⟩) (fun hc => ⟨vp_in_nI a1 (by omega), ⟨vp_in_nI ht (by omega), nm_e ⟨vp_in_nI a1 (by omega), nm_r a3 (nm_r (nI_1 i) ?_)⟩⟩⟩)⟩⟩)
    · refine ih (k + 1) (i + 1) c (by omega) (by omega) ?_
      unfold zl_m1 at K'; rw [if_pos hc] at K'; exact K'
    · refine ih (k + 1) (i + 1) (xck (kk k)) (by omega) (by omega) ?_
      unfold zl_m1 at K'; rw [if_neg hc] at K'; exact K'
theorem xw_cu {t n k : Nat} {kk : Nat → Nat} (ht : t < 48) (hkn : k ≤ n) (hn : n ≤ 48) (ho : xow t = if k < n then nI (kk k) else -1) (hk : ∀ k, k < n → kk k < 48 ∧ kk k ≠ t ∧ xnk (kk k) = if k + 1 < n then nI (kk (k + 1)) else -1) (K : post (k0, k1, k2, k3, k4, k5, k6, k7, k8, k9, k10, k11, k12, k13, k14, k15, k16, k17, k18, k19, fwc, frg, flm, fst, fgv, fov, ffl, fmd, fwd, xlo, xla, xlb, xll, xce, xlc, xtop, xbot, xslo, xaim, xph, xcu, xhe, xit, xst, xsb, xpv, xtr, xpr, xar, xpa, xfk, xlk, xnk, xow, xki, xfo, xre, xbe, upd xck t (zl_mx (fun k => (xre (kk k), xck (kk k))) (xck t) k (n - k)), xru, xpc, xjn, xbl, xrg, xod, xnu)) : wpX_catchUp post (k0, k1, k2, k3, k4, k5, k6, k7, k8, k9, k10, k11, k12, k13, k14, k15, k16, k17, k18, k19, fwc, frg, flm, fst, fgv, fov, ffl, fmd, fwd, xlo, xla, xlb, xll, xce, xlc, xtop, xbot, xslo, xaim, xph, xcu, xhe, xit, xst, xsb, xpv, xtr, xpr, xar, xpa, xfk, xlk, xnk, xow, xki, xfo, xre, xbe, xck, xru, xpc, xjn, xbl, xrg, xod, xnu) (nI t) := by
  have c2 : (nI t).toNatClampNeg = t := nI_clamp (by omega)
  have L := xw_cul (post := post) ht hk (n - k) k 0 (xck t) (by omega) (by omega) K
  rw [us_id] at L
  refine ⟨vp_in_nI ht (by omega), nm_r (e' := if k < n then nI (kk k) else -1) (by rw [c2]; exact ho) ⟨n - k + 1, L⟩⟩
theorem xw_fol {t n to : Nat} {kk : Nat → Nat} {f : Int32} (ht : t < 48) (hto : to < 192) (hk : ∀ k, k < n → kk k < 48 ∧ kk k ≠ t ∧ xnk (kk k) = if k + 1 < n then nI (kk (k + 1)) else -1) : ∀ (d k i q : Nat) (r : Int32), k + d = n → i + d ≤ 48 → post (k0, k1, k2, k3, k4, k5, k6, k7, k8, k9, k10, k11, k12, k13, k14, k15, k16, k17, k18, k19, fwc, frg, flm, fst, fgv, fov, ffl, fmd, fwd, xlo, xla, xlb, xll, xce, xlc, xtop, xbot, xslo, xaim, xph, xcu, xhe, xit, xst, xsb, xpv, xtr, xpr, xar, xpa, xfk, xlk, xnk, upd xow t (-1), xki, upd xfo t (nI (q + d)), xre, xbe, xck, xru, upd xpc t (xpc t + 1), xjn, xbl, upd xrg to (zl_fo (fun k => (xre (kk k), xck (kk k))) f r k d), xod, xnu) → wX_fold_30 post (nI t) (nI to) f k0 k1 k2 k3 k4 k5 k6 k7 k8 k9 k10 k11 k12 k13 k14 k15 k16 k17 k18 k19 fwc frg flm fst fgv fov ffl fmd fwd (d + 1) (if k < n then nI (kk k) else -1) (nI i) xlo xla xlb xll xce xlc xtop xbot xslo xaim xph xcu xhe xit xst xsb xpv xtr xpr xar xpa xfk xlk xnk xow xki (upd xfo t (nI q)) xre xbe xck xru xpc xjn xbl (upd xrg to r) xod xnu := by
  intro d
  induction d with
  | zero =>
    intro k i q r h1 h2 K
    have c2 : (nI t).toNatClampNeg = t := nI_clamp (by omega)
    have E : wX_fold_90 post (nI t) k0 k1 k2 k3 k4 k5 k6 k7 k8 k9 k10 k11 k12 k13 k14 k15 k16 k17 k18 k19 fwc frg flm fst fgv fov ffl fmd fwd xlo xla xlb xll xce xlc xtop xbot xslo xaim xph xcu xhe xit xst xsb xpv xtr xpr xar xpa xfk xlk xnk xow xki (upd xfo t (nI q)) xre xbe xck xru xpc xjn xbl (upd xrg to r) xod xnu := by
      unfold wX_fold_90
      rw [c2]
      exact ⟨vp_in_nI ht (by omega), nm_e ⟨vp_in_nI ht (by omega), ⟨vp_in_nI ht (by omega), nm_e K⟩⟩⟩
    rw [if_neg (by omega)]
    exact br_c (fun _ => E) (fun _ => br_t (by decide) E)
  | succ d ih =>
    intro k i q r h1 h2 K
    obtain ⟨a1, a2, a3⟩ := hk k (by omega)
    rw [if_pos (by omega)]
    have c1 : (nI (kk k)).toNatClampNeg = kk k := nI_clamp (by omega)
    have c2 : (nI t).toNatClampNeg = t := nI_clamp (by omega)
    have c3 : (nI to).toNatClampNeg = to := nI_clamp (by omega)
    unfold wX_fold_30
    simp only [c1, c2, c3, us_s, us_us]
    refine br_f (nI_ge (b := 48) (by omega) (by omega)) (br_f (nI_pos (by omega)) ⟨vp_in_nI hto (by omega), ⟨vp_in_nI a1 (by omega), ⟨vp_in_nI hto (by omega), nm_e ⟨vp_in_nI ht (by omega), ⟨vp_in_nI ht (by omega), nm_e ⟨vp_in_nI a1 (by omega), nm_r a3 (nm_r (nI_1 i) ?_)⟩⟩⟩⟩⟩⟩)
    rw [nI_1 q]
    refine ih (k + 1) (i + 1) (q + 1) _ (by omega) (by omega) ?_
    rw [show q + 1 + d = q + (d + 1) by omega]
    exact K
theorem xw_fo {t n k to a : Nat} {kk : Nat → Nat} {ln f : Int32} (ht : t < 48) (hl : vp_in ln 40) (ha : a < 4) (ea : xla ln.toNatClampNeg = nI a) (eto : to = 4 * t + a) (ef : xlb ln.toNatClampNeg = f) (hkn : k ≤ n) (hn : n ≤ 48) (ho : xow t = if k < n then nI (kk k) else -1) (hf : xfo t = nI k) (hk : ∀ k, k < n → kk k < 48 ∧ kk k ≠ t ∧ xnk (kk k) = if k + 1 < n then nI (kk (k + 1)) else -1) (K : post (k0, k1, k2, k3, k4, k5, k6, k7, k8, k9, k10, k11, k12, k13, k14, k15, k16, k17, k18, k19, fwc, frg, flm, fst, fgv, fov, ffl, fmd, fwd, xlo, xla, xlb, xll, xce, xlc, xtop, xbot, xslo, xaim, xph, xcu, xhe, xit, xst, xsb, xpv, xtr, xpr, xar, xpa, xfk, xlk, xnk, upd xow t (-1), xki, upd xfo t (nI n), xre, xbe, xck, xru, upd xpc t (xpc t + 1), xjn, xbl, upd xrg to (zl_fo (fun k => (xre (kk k), xck (kk k))) f (xrg to) k (n - k)), xod, xnu)) : wpX_fold post (k0, k1, k2, k3, k4, k5, k6, k7, k8, k9, k10, k11, k12, k13, k14, k15, k16, k17, k18, k19, fwc, frg, flm, fst, fgv, fov, ffl, fmd, fwd, xlo, xla, xlb, xll, xce, xlc, xtop, xbot, xslo, xaim, xph, xcu, xhe, xit, xst, xsb, xpv, xtr, xpr, xar, xpa, xfk, xlk, xnk, xow, xki, xfo, xre, xbe, xck, xru, xpc, xjn, xbl, xrg, xod, xnu) (nI t) ln := by
  have c2 : (nI t).toNatClampNeg = t := nI_clamp (by omega)
  have L := xw_fol (post := post) (f := f) (to := to) ht (by omega) hk (n - k) k 0 k (xrg to) (by omega) (by omega) (by rw [show k + (n - k) = n by omega]; exact K)
  rw [us_id, ← hf, us_id] at L
  refine ⟨hl, nm_r (e' := nI to) ?_ ⟨hl, nm_r ef ⟨vp_in_nI ht (by omega), nm_r (e' := if k < n then nI (kk k) else -1) (by rw [c2]; exact ho) ⟨n - k + 1, L⟩⟩⟩⟩
  rw [ea]
  show nI t * nI 4 + nI a = nI to
  rw [pk_mul, nI_add, eto, Nat.mul_comm]
/-- the task ends -/
theorem xc_128 {t z : Int32} (hw : vp_in p0 4) (ht : vp_in t 48) (K1 : 0 ≤ xpa t.toNatClampNeg → post (k0, k1, k2, k3, k4, k5, k6, k7, k8, k9, k10, k11, k12, k13, k14, k15, k16, k17, k18, k19, fwc, frg, flm, fst, fgv, fov, ffl, fmd, fwd, xlo, xla, xlb, xll, xce, xlc, xtop, xbot, xslo, xaim, upd xph p0.toNatClampNeg 19, xcu, xhe, xit, xst, xsb, xpv, xtr, xpr, xar, xpa, xfk, xlk, xnk, xow, xki, xfo, upd xre t.toNatClampNeg z, xbe, xck, upd xru t.toNatClampNeg (xru t.toNatClampNeg + 1), xpc, xjn, xbl, xrg, xod, xnu)) (K2 : ¬ 0 ≤ xpa t.toNatClampNeg → post (k0, k1, k2, k3, k4, k5, k6, k7, k8, k9, k10, k11, k12, k13, k14, k15, k16, k17, k18, k19, fwc, frg, flm, fst, fgv, 1, ffl, fmd, fwd, xlo, xla, xlb, xll, xce, xlc, xtop, xbot, xslo, xaim, xph, xcu, xhe, xit, xst, xsb, xpv, xtr, xpr, xar, xpa, xfk, xlk, xnk, xow, xki, xfo, upd xre t.toNatClampNeg z, xbe, xck, upd xru t.toNatClampNeg (xru t.toNatClampNeg + 1), xpc, xjn, xbl, xrg, xod, xnu)) : wX_complete_128 post p0 t z t k0 k1 k2 k3 k4 k5 k6 k7 k8 k9 k10 k11 k12 k13 k14 k15 k16 k17 k18 k19 fwc frg flm fst fgv fov ffl fmd fwd xlo xla xlb xll xce xlc xtop xbot xslo xaim xph xcu xhe xit xst xsb xpv xtr xpr xar xpa xfk xlk xnk xow xki xfo xre xbe xck xru xpc xjn xbl xrg xod xnu :=
  ⟨ht, nm_e ⟨ht, ⟨ht, nm_e ⟨ht, br_c (fun z => ⟨hw, nm_e (K1 z)⟩) (fun z => K2 z)⟩⟩⟩⟩
theorem xc_end {t n k : Nat} {kk : Nat → Nat} {pr pc : Int32} (ht : t < 48) (e1 : xpr t = pr) (e2 : xpc t = pc) (hpr : vp_in pr 4) (hc : xll pr.toNatClampNeg ≤ pc)
    (hkn : k ≤ n) (hn : n ≤ 48) (ho : xow t = if k < n then nI (kk k) else -1) (hk : ∀ k, k < n → kk k < 48 ∧ kk k ≠ t ∧ xnk (kk k) = if k + 1 < n then nI (kk (k + 1)) else -1)
    (K : wX_complete_128 post p0 (nI t) 0 (nI t) k0 k1 k2 k3 k4 k5 k6 k7 k8 k9 k10 k11 k12 k13 k14 k15 k16 k17 k18 k19 fwc frg flm fst fgv fov ffl fmd fwd xlo xla xlb xll xce xlc xtop xbot xslo xaim xph xcu xhe xit xst xsb xpv xtr xpr xar xpa xfk xlk xnk xow xki xfo xre xbe (upd xck t (zl_mx (fun k => (xre (kk k), xck (kk k))) (xck t) k (n - k))) xru xpc xjn xbl xrg xod xnu) : wpX_complete post (k0, k1, k2, k3, k4, k5, k6, k7, k8, k9, k10, k11, k12, k13, k14, k15, k16, k17, k18, k19, fwc, frg, flm, fst, fgv, fov, ffl, fmd, fwd, xlo, xla, xlb, xll, xce, xlc, xtop, xbot, xslo, xaim, xph, xcu, xhe, xit, xst, xsb, xpv, xtr, xpr, xar, xpa, xfk, xlk, xnk, xow, xki, xfo, xre, xbe, xck, xru, xpc, xjn, xbl, xrg, xod, xnu) p0 (nI t) := by
  have c2 : (nI t).toNatClampNeg = t := nI_clamp (by omega)
  exact ⟨vp_in_nI ht (by omega), nm_r (by rw [c2]; exact e1) ⟨vp_in_nI ht (by omega), nm_r (by rw [c2]; exact e2) ⟨hpr, br_t hc (xw_cu ht hkn hn ho hk (br_t (by decide) (br_t (by decide) (br_t (by decide) K))))⟩⟩⟩
/-- the line at which it waited is counted -/
theorem xc_line {t n k : Nat} {kk : Nat → Nat} {pr pc ln : Int32} (ht : t < 48) (e1 : xpr t = pr) (e2 : xpc t = pc) (hpr : vp_in pr 4) (hc : ¬ xll pr.toNatClampNeg ≤ pc) (e3 : pr * 10 + pc = ln) (hl : vp_in ln 40)
    (hkn : k ≤ n) (hn : n ≤ 48) (ho : xow t = if k < n then nI (kk k) else -1) (hk : ∀ k, k < n → kk k < 48 ∧ kk k ≠ t ∧ xnk (kk k) = if k + 1 < n then nI (kk (k + 1)) else -1)
    (K : wX_complete_65 post p0 (nI t) ln k0 k1 k2 k3 k4 k5 k6 k7 k8 k9 k10 k11 k12 k13 k14 k15 k16 k17 k18 k19 fwc frg flm fst fgv fov ffl fmd (fwd + 1) xlo xla xlb xll xce (upd xlc ln.toNatClampNeg (xlc ln.toNatClampNeg + 1)) xtop xbot xslo xaim xph xcu xhe xit xst xsb xpv xtr xpr xar xpa xfk xlk xnk xow xki xfo xre xbe (upd xck t (zl_mx (fun k => (xre (kk k), xck (kk k))) (xck t) k (n - k) + 1)) xru xpc xjn xbl xrg xod xnu) : wpX_complete post (k0, k1, k2, k3, k4, k5, k6, k7, k8, k9, k10, k11, k12, k13, k14, k15, k16, k17, k18, k19, fwc, frg, flm, fst, fgv, fov, ffl, fmd, fwd, xlo, xla, xlb, xll, xce, xlc, xtop, xbot, xslo, xaim, xph, xcu, xhe, xit, xst, xsb, xpv, xtr, xpr, xar, xpa, xfk, xlk, xnk, xow, xki, xfo, xre, xbe, xck, xru, xpc, xjn, xbl, xrg, xod, xnu) p0 (nI t) := by
  have c2 : (nI t).toNatClampNeg = t := nI_clamp (by omega)
  subst e3
  have hl0 : ¬ pr * 10 + pc < 0 := fun z => hl (Or.inl z)
  refine ⟨vp_in_nI ht (by omega), nm_r (by rw [c2]; exact e1) ⟨vp_in_nI ht (by omega), nm_r (by rw [c2]; exact e2) ⟨hpr, br_f hc (xw_cu ht hkn hn ho hk (br_f hl0 ⟨hl, ⟨hl, nm_e (nm_e ⟨vp_in_nI ht (by omega), ⟨vp_in_nI ht (by omega), nm_r ?_ K⟩⟩)⟩⟩))⟩⟩⟩
  rw [c2, us_us, us_s]
theorem xc_sync {t n k to a : Nat} {kk : Nat → Nat} {ln f : Int32} (hw : vp_in p0 4) (ht : t < 48) (hl : vp_in ln 40) (eo : xlo ln.toNatClampNeg = 9) (ha : a < 4) (ea : xla ln.toNatClampNeg = nI a) (eto : to = 4 * t + a) (ef : xlb ln.toNatClampNeg = f) (hkn : k ≤ n) (hn : n ≤ 48) (ho : xow t = if k < n then nI (kk k) else -1) (hf : xfo t = nI k) (hk : ∀ k, k < n → kk k < 48 ∧ kk k ≠ t ∧ xnk (kk k) = if k + 1 < n then nI (kk (k + 1)) else -1) (K : post (k0, k1, k2, k3, k4, k5, k6, k7, k8, k9, k10, k11, k12, k13, k14, k15, k16, k17, k18, k19, fwc, frg, flm, fst, fgv, fov, ffl, fmd, fwd, xlo, xla, xlb, xll, xce, xlc, xtop, xbot, xslo, xaim, upd xph p0.toNatClampNeg 18, xcu, xhe, xit, xst, xsb, xpv, xtr, xpr, xar, xpa, xfk, xlk, xnk, upd xow t (-1), xki, upd xfo t (nI n), xre, xbe, xck, xru, upd xpc t (xpc t + 1), xjn, xbl, upd xrg to (zl_fo (fun k => (xre (kk k), xck (kk k))) f (xrg to) k (n - k)), xod, xnu)) : wX_complete_65 post p0 (nI t) ln k0 k1 k2 k3 k4 k5 k6 k7 k8 k9 k10 k11 k12 k13 k14 k15 k16 k17 k18 k19 fwc frg flm fst fgv fov ffl fmd fwd xlo xla xlb xll xce xlc xtop xbot xslo xaim xph xcu xhe xit xst xsb xpv xtr xpr xar xpa xfk xlk xnk xow xki xfo xre xbe xck xru xpc xjn xbl xrg xod xnu :=
  br_f (fun z => hl (Or.inl z)) ⟨hl, br_t eo (xw_fo ht hl ha ea eto ef hkn hn ho hf hk ⟨hw, nm_e K⟩)⟩
theorem xc_ret {t ln a : Int32} (hl : vp_in ln 40) (eo : ¬ xlo ln.toNatClampNeg = 9) (ea : t * 4 + xla ln.toNatClampNeg = a) (ha : vp_in a 192) (K : wX_complete_128 post p0 t (xrg a.toNatClampNeg) t k0 k1 k2 k3 k4 k5 k6 k7 k8 k9 k10 k11 k12 k13 k14 k15 k16 k17 k18 k19 fwc frg flm fst fgv fov ffl fmd fwd xlo xla xlb xll xce xlc xtop xbot xslo xaim xph xcu xhe xit xst xsb xpv xtr xpr xar xpa xfk xlk xnk xow xki xfo xre xbe xck xru xpc xjn xbl xrg xod xnu) : wX_complete_65 post p0 t ln k0 k1 k2 k3 k4 k5 k6 k7 k8 k9 k10 k11 k12 k13 k14 k15 k16 k17 k18 k19 fwc frg flm fst fgv fov ffl fmd fwd xlo xla xlb xll xce xlc xtop xbot xslo xaim xph xcu xhe xit xst xsb xpv xtr xpr xar xpa xfk xlk xnk xow xki xfo xre xbe xck xru xpc xjn xbl xrg xod xnu := by
  subst ea
  exact br_f (fun z => hl (Or.inl z)) ⟨hl, br_f eo (br_f (fun z => hl (Or.inl z)) ⟨hl, ⟨ha, K⟩⟩)⟩
end
end
section
/-! a turn of a worker with no task in hand, or pushing -/
section
theorem ds_slotP {rg : Nat} {p0 x : Int32} (hr : 1 ≤ rg ∧ rg ≤ 8) (hp : vp_in p0 4) (h0 : 0 ≤ x.toInt) : p0 * 8 + (x - x / nI rg * nI rg) = nI (ds_ix rg p0.toNatClampNeg x.toInt) := by
  obtain ⟨j, hj, rfl⟩ := vp_in_of hp (by decide)
  rw [nI_clamp (by omega)]
  exact ds_slotI hr hj h0
theorem dN_cl {x : Int32} (h : dN x < 99) : x.toNatClampNeg = dN x := by
  have e := dN_lt rfl h
  have : x.toNatClampNeg = (nI (dN x)).toNatClampNeg := congrArg _ e
  rw [this, nI_clamp (by omega)]
theorem dN_in {x : Int32} {n N : Nat} (e : dN x = n) (h : n < N) (hN : N ≤ 99) : vp_in x N := by
  rw [dN_lt e (by omega)]; exact vp_in_nI h (by omega)
theorem nI_rg {rg : Nat} (h : 1 ≤ rg ∧ rg ≤ 8) : ¬ nI rg = 0 := nI_ne0 (by omega) (by omega)
/-- the next prey is a worker -/
theorem xw_prey {wc : Nat} {q a v p0 : Int32} (h1 : 1 ≤ wc) (hwc : wc ≤ 4) (ha : dN a < wc) (hv : dN v < wc) (hp : vp_in p0 4) (h : q = a ∨ q = 0 ∨ q < nI wc ∧ (q = v + 1 ∨ q = p0 + 1 ∨ q = 0 + 1)) : dN q < wc := by
  rcases h with rfl | rfl | ⟨hl, h⟩
  · exact ha
  · rw [dn0]; exact h1
  · have fin : ∀ j : Nat, j < 10 → q = nI j → dN q < wc := by
      intro j hj e
      rw [e] at hl ⊢
      rw [nI_ltI (by omega) (by omega)] at hl
      rw [dN_n (by omega)]; exact hl
    rcases h with e | e | e
    · rw [dN_lt (x := v) rfl (by omega), nI_1] at e
      exact fin _ (by omega) e
    · obtain ⟨j, hj, rfl⟩ := vp_in_of hp (by decide)
      rw [nI_1] at e
      exact fin _ (by omega) e
    · exact fin 1 (by omega) e
variable {post : SX → Prop} {k0 k1 k2 k3 k4 k5 k6 k7 k8 k9 k10 k11 k12 k13 k14 k15 k16 k17 k18 k19 fwc frg flm fst fgv fov ffl fmd fwd : Int32} {xlo xla xlb xll xce xlc xtop xbot xslo xaim xph xcu xhe xit xst xsb xpv xtr xpr xar xpa xfk xlk xnk xow xki xfo xre xbe xck xru xpc xjn xbl xrg xod xnu : Nat → Int32} {p0 : Int32} {wc rg m : Nat} {par : Nat → Nat} {dn wt : Nat → Prop} {mu : Nat}
theorem xa_sched (h1 : 1 ≤ wc) (hwc : wc ≤ 4) (hr : 1 ≤ rg ∧ rg ≤ 8) (hm : m ≤ 48) (hfw : fwc = nI wc) (hfr : frg = nI rg) (hai : ∀ w, w < wc → dN (xaim w) < wc) (ho : fov = 0) (hw : p0.toNatClampNeg < wc) (h4 : vp_in p0 4) (S : xs_S wc rg m par dn wt mu xtop xbot xslo xph xcu xhe xit xst xsb xpv xjn xbl) (h13 : dF xph p0.toNatClampNeg ≤ 13)
    (fin : ∀ (xtop' xbot' xslo' xph' xcu' xhe' xit' xst' xsb' xpv' xtr' xbl' : Nat → Int32) (mu' : Nat), xs_S wc rg m par dn wt mu' xtop' xbot' xslo' xph' xcu' xhe' xit' xst' xsb' xpv' xjn xbl' → mu' ≤ mu → (mu' < mu ∨ (6 ≤ dF xph p0.toNatClampNeg ∧ dF xph p0.toNatClampNeg ≤ 9)) → (∀ v, v ≠ p0.toNatClampNeg → xph' v = xph v) → (∀ v, wc ≤ v → xtop' v = xtop v) → post (k0, k1, k2, k3, k4, k5, k6, k7, k8, k9, k10, k11, k12, k13, k14, k15, k16, k17, k18, k19, fwc, frg, flm, fst, fgv, fov, ffl, fmd, fwd, xlo, xla, xlb, xll, xce, xlc, xtop', xbot', xslo', xaim, xph', xcu', xhe', xit', xst', xsb', xpv', xtr', xpr, xar, xpa, xfk, xlk, xnk, xow, xki, xfo, xre, xbe, xck, xru, xpc, xjn, xbl', xrg, xod, xnu)) : wpX_step post (k0, k1, k2, k3, k4, k5, k6, k7, k8, k9, k10, k11, k12, k13, k14, k15, k16, k17, k18, k19, fwc, frg, flm, fst, fgv, fov, ffl, fmd, fwd, xlo, xla, xlb, xll, xce, xlc, xtop, xbot, xslo, xaim, xph, xcu, xhe, xit, xst, xsb, xpv, xtr, xpr, xar, xpa, xfk, xlk, xnk, xow, xki, xfo, xre, xbe, xck, xru, xpc, xjn, xbl, xrg, xod, xnu) p0 := by
  subst hfw hfr
  have S0 := S
  obtain ⟨vb, tb, hn, lo, D, J, E, M, Pm⟩ := S0
  have a := D.1 p0.toNatClampNeg hw
  have v := D.2.1 p0.toNatClampNeg hw
  have pk : ∀ q : Int32, ∀ v, v ≠ p0.toNatClampNeg → upd xph p0.toNatClampNeg q v = xph v := fun q v h => us_n h
  have tk : ∀ v, wc ≤ v → xtop v = xtop v := fun _ _ => rfl
  have P : dF xph p0.toNatClampNeg = 0 ∨ dF xph p0.toNatClampNeg = 1 ∨ dF xph p0.toNatClampNeg = 2 ∨ dF xph p0.toNatClampNeg = 3 ∨ dF xph p0.toNatClampNeg = 4 ∨ dF xph p0.toNatClampNeg = 5 ∨ dF xph p0.toNatClampNeg = 6 ∨ dF xph p0.toNatClampNeg = 7 ∨ dF xph p0.toNatClampNeg = 8 ∨ dF xph p0.toNatClampNeg = 9 ∨ dF xph p0.toNatClampNeg = 10 ∨ dF xph p0.toNatClampNeg = 11 ∨ dF xph p0.toNatClampNeg = 12 ∨ dF xph p0.toNatClampNeg = 13 := by omega
  rcases P with e | e | e | e | e | e | e | e | e | e | e | e | e | e
  · have hp : xph p0.toNatClampNeg = 0 := dN_lt e (by decide)
    obtain ⟨mu', lt, S'⟩ := xs_pop0 S hwc hr hm hw hp
    exact xw_pop0 ho h4 hp (fin _ _ _ _ _ _ _ _ _ _ _ _ mu' S' (Nat.le_of_lt lt) (Or.inl lt) (pk _) tk)
  · have hp : xph p0.toNatClampNeg = 1 := dN_lt e (by decide)
    obtain ⟨mu', lt, S'⟩ := xs_pop1 S hwc hr hm hw hp
    exact xw_pop1 ho h4 hp (fin _ _ _ _ _ _ _ _ _ _ _ _ mu' S' (Nat.le_of_lt lt) (Or.inl lt) (pk _) tk)
  · have hp : xph p0.toNatClampNeg = 2 := dN_lt e (by decide)
    by_cases hc : xtop p0.toNatClampNeg ≤ xsb p0.toNatClampNeg
    · obtain ⟨mu', lt, S'⟩ := xs_pop2a S hwc hr hm hw hp hc
      exact xw_pop2a ho h4 hp hc (fin _ _ _ _ _ _ _ _ _ _ _ _ mu' S' (Nat.le_of_lt lt) (Or.inl lt) (pk _) tk)
    · obtain ⟨mu', lt, S'⟩ := xs_pop2b S hwc hr hm hw hp hc
      exact xw_pop2b ho h4 hp hc (fin _ _ _ _ _ _ _ _ _ _ _ _ mu' S' (Nat.le_of_lt lt) (Or.inl lt) (pk _) tk)
  · have hp : xph p0.toNatClampNeg = 3 := dN_lt e (by decide)
    rw [e] at a
    have s0 : 0 ≤ (xsb p0.toNatClampNeg).toInt := by simp only [tI] at a; unfold ds_W at a; omega
    have es := ds_slotP hr h4 s0
    have ix := ds_ixb (rg := rg) (w := p0.toNatClampNeg) (i := (xsb p0.toNatClampNeg).toInt) hr (by omega)
    have si := vp_in_nI ix (by decide)
    have ci : (nI (ds_ix rg p0.toNatClampNeg (xsb p0.toNatClampNeg).toInt)).toNatClampNeg = ds_ix rg p0.toNatClampNeg (xsb p0.toNatClampNeg).toInt := nI_clamp (by omega)
    by_cases hc : xsb p0.toNatClampNeg ≤ xst p0.toNatClampNeg
    · obtain ⟨mu', lt, S'⟩ := xs_pop3a S hwc hr hm hw hp hc
      refine xw_pop3a ho h4 (nI_rg hr) es si hp hc ?_
      rw [ci]
      exact fin _ _ _ _ _ _ _ _ _ _ _ _ mu' S' (Nat.le_of_lt lt) (Or.inl lt) (pk _) tk
    · obtain ⟨mu', lt, S'⟩ := xs_pop3b S hwc hm hw hp hc
      refine xw_pop3b ho h4 (nI_rg hr) es si hp hc ?_
      rw [ci, us_s, us_us]
      exact fin _ _ _ _ _ _ _ _ _ _ _ _ mu' S' (Nat.le_of_lt lt) (Or.inl lt) (pk _) tk
  · have hp : xph p0.toNatClampNeg = 4 := dN_lt e (by decide)
    by_cases hc : xtop p0.toNatClampNeg = xst p0.toNatClampNeg
    · obtain ⟨mu', lt, S'⟩ := xs_pop4a S hwc hm hw hp hc
      exact xw_pop4a ho h4 hp hc (fin _ _ _ _ _ _ _ _ _ _ _ _ mu' S' (Nat.le_of_lt lt) (Or.inl lt) (pk _) (fun v hv => us_n (by omega)))
    · obtain ⟨mu', lt, S'⟩ := xs_pop4b S hwc hr hm hw hp hc
      exact xw_pop4b ho h4 hp hc (fin _ _ _ _ _ _ _ _ _ _ _ _ mu' S' (Nat.le_of_lt lt) (Or.inl lt) (pk _) tk)
  · have hp : xph p0.toNatClampNeg = 5 := dN_lt e (by decide)
    by_cases hc : xit p0.toNatClampNeg < 0
    · obtain ⟨mu', lt, S'⟩ := xs_pop5a S hwc hr hm hw hp hc (hai _ hw)
      exact xw_pop5a ho h4 hp hc (fin _ _ _ _ _ _ _ _ _ _ _ _ mu' S' (Nat.le_of_lt lt) (Or.inl lt) (pk _) tk)
    · obtain ⟨mu', lt, S'⟩ := xs_pop5b S hwc hm hw hp hc
      exact xw_pop5b ho h4 hp hc (fin _ _ _ _ _ _ _ _ _ _ _ _ mu' S' (Nat.le_of_lt lt) (Or.inl lt) (pk _) tk)
  · have hp : xph p0.toNatClampNeg = 6 := dN_lt e (by decide)
    have vv := v.1 (by omega)
    by_cases hv : xpv p0.toNatClampNeg = p0
    · exact xw_st0 ho h4 hp (by decide) hv (fin _ _ _ _ _ _ _ _ _ _ _ _ mu S (Nat.le_refl _) (Or.inr (by omega)) (fun _ _ => rfl) tk)
    · have vi : vp_in (xpv p0.toNatClampNeg) 4 := dN_in rfl (show dN (xpv p0.toNatClampNeg) < 4 by unfold dF at vv; omega) (by decide)
      have vc : (xpv p0.toNatClampNeg).toNatClampNeg = dN (xpv p0.toNatClampNeg) := dN_cl (by unfold dF at vv; omega)
      obtain ⟨mu', lt, S'⟩ := xs_st6 S hwc hr hm hw hp
      refine xw_st6 ho h4 hp rfl hv vi ?_
      rw [vc]
      exact fin _ _ _ _ _ _ _ _ _ _ _ _ mu' S' lt (Or.inr (by omega)) (pk _) tk
  · have hp : xph p0.toNatClampNeg = 7 := dN_lt e (by decide)
    have vv := v.1 (by omega)
    by_cases hv : xpv p0.toNatClampNeg = p0
    · exact xw_st0 ho h4 hp (by decide) hv (fin _ _ _ _ _ _ _ _ _ _ _ _ mu S (Nat.le_refl _) (Or.inr (by omega)) (fun _ _ => rfl) tk)
    · have vi : vp_in (xpv p0.toNatClampNeg) 4 := dN_in rfl (show dN (xpv p0.toNatClampNeg) < 4 by unfold dF at vv; omega) (by decide)
      have vc : (xpv p0.toNatClampNeg).toNatClampNeg = dN (xpv p0.toNatClampNeg) := dN_cl (by unfold dF at vv; omega)
      by_cases hc : xbot (xpv p0.toNatClampNeg).toNatClampNeg ≤ xst p0.toNatClampNeg
      · refine xw_st7a ho h4 hp rfl hv vi hc (xw_next h4 (fun q tr' hq => ?_))
        obtain ⟨mu', lt, S'⟩ := xs_nx7 S hwc hr hm hw hp (xw_prey h1 hwc (hai _ hw) vv h4 hq)
        exact fin _ _ _ _ _ _ _ _ _ _ _ _ mu' S' lt (Or.inr (by omega)) (pk _) tk
      · obtain ⟨mu', lt, S'⟩ := xs_st7b S hwc hr hm hw hp (by rw [← vc]; exact hc)
        exact xw_st7b ho h4 hp rfl hv vi hc (fin _ _ _ _ _ _ _ _ _ _ _ _ mu' S' lt (Or.inr (by omega)) (pk _) tk)
  · have hp : xph p0.toNatClampNeg = 8 := dN_lt e (by decide)
    have vv := v.1 (by omega)
    by_cases hv : xpv p0.toNatClampNeg = p0
    · exact xw_st0 ho h4 hp (by decide) hv (fin _ _ _ _ _ _ _ _ _ _ _ _ mu S (Nat.le_refl _) (Or.inr (by omega)) (fun _ _ => rfl) tk)
    · have vi : vp_in (xpv p0.toNatClampNeg) 4 := dN_in rfl (show dN (xpv p0.toNatClampNeg) < 4 by unfold dF at vv; omega) (by decide)
      have vc : (xpv p0.toNatClampNeg).toNatClampNeg = dN (xpv p0.toNatClampNeg) := dN_cl (by unfold dF at vv; omega)
      have s0 : 0 ≤ (xst p0.toNatClampNeg).toInt := (v.2.1 (by omega)).1
      have es := ds_slotP hr vi s0
      have ix := ds_ixb (rg := rg) (w := (xpv p0.toNatClampNeg).toNatClampNeg) (i := (xst p0.toNatClampNeg).toInt) hr (by unfold dF at vv; omega)
      have si := vp_in_nI ix (by decide)
      have ci : (nI (ds_ix rg (xpv p0.toNatClampNeg).toNatClampNeg (xst p0.toNatClampNeg).toInt)).toNatClampNeg = ds_ix rg (xpv p0.toNatClampNeg).toNatClampNeg (xst p0.toNatClampNeg).toInt := nI_clamp (by omega)
      obtain ⟨mu', lt, S'⟩ := xs_st8 S hwc hr hm hw hp
      refine xw_st8 ho h4 hp rfl hv (nI_rg hr) es si ?_
      rw [ci, vc]
      exact fin _ _ _ _ _ _ _ _ _ _ _ _ mu' S' lt (Or.inr (by omega)) (pk _) tk
  · have hp : xph p0.toNatClampNeg = 9 := dN_lt e (by decide)
    have vv := v.1 (by omega)
    by_cases hv : xpv p0.toNatClampNeg = p0
    · exact xw_st0 ho h4 hp (by decide) hv (fin _ _ _ _ _ _ _ _ _ _ _ _ mu S (Nat.le_refl _) (Or.inr (by omega)) (fun _ _ => rfl) tk)
    · have vi : vp_in (xpv p0.toNatClampNeg) 4 := dN_in rfl (show dN (xpv p0.toNatClampNeg) < 4 by unfold dF at vv; omega) (by decide)
      have vc : (xpv p0.toNatClampNeg).toNatClampNeg = dN (xpv p0.toNatClampNeg) := dN_cl (by unfold dF at vv; omega)
      have vn : dN (xpv p0.toNatClampNeg) ≠ p0.toNatClampNeg := by
        intro z
        refine hv ?_
        obtain ⟨j, hj, e2⟩ := vp_in_of h4 (by decide)
        have e1 := dN_lt z (by omega)
        rw [e1, e2, nI_clamp (by omega)]
      by_cases hc : xtop (xpv p0.toNatClampNeg).toNatClampNeg = xst p0.toNatClampNeg
      · obtain ⟨mu', lt, S'⟩ := xs_st9a S hwc hm hw hp vn (by rw [← vc]; exact hc)
        refine xw_st9a ho h4 hp rfl hv vi hc ?_
        rw [vc]
        exact fin _ _ _ _ _ _ _ _ _ _ _ _ mu' S' lt (Or.inr (by omega)) (pk _) (fun u hu => us_n (by unfold dF at vv; omega))
      · refine xw_st9b ho h4 hp rfl hv vi hc (xw_next h4 (fun q tr' hq => ?_))
        obtain ⟨mu', lt, S'⟩ := xs_nx9 S hwc hr hm hw hp (xw_prey h1 hwc (hai _ hw) vv h4 hq)
        exact fin _ _ _ _ _ _ _ _ _ _ _ _ mu' S' lt (Or.inr (by omega)) (pk _) tk
  · have hp : xph p0.toNatClampNeg = 10 := dN_lt e (by decide)
    obtain ⟨mu', lt, S'⟩ := xs_pu10 S hwc hr hm hw hp
    exact xw_pu10 ho h4 hp (fin _ _ _ _ _ _ _ _ _ _ _ _ mu' S' (Nat.le_of_lt lt) (Or.inl lt) (pk _) tk)
  · have hp : xph p0.toNatClampNeg = 11 := dN_lt e (by decide)
    rw [e] at a
    have ab : 0 ≤ (xtop p0.toNatClampNeg).toInt ∧ (xtop p0.toNatClampNeg).toInt ≤ 55 ∧ 0 ≤ (xsb p0.toNatClampNeg).toInt ∧ (xsb p0.toNatClampNeg).toInt ≤ 55 := by simp only [tI] at a; unfold ds_W at a; omega
    have es : (xsb p0.toNatClampNeg - xtop p0.toNatClampNeg).toInt = (xsb p0.toNatClampNeg).toInt - (xtop p0.toNatClampNeg).toInt := Jvm.Kit.i32_sub (by omega) (by omega)
    by_cases hc : xsb p0.toNatClampNeg - xtop p0.toNatClampNeg < nI rg
    · have hc2 : (xsb p0.toNatClampNeg).toInt - (xtop p0.toNatClampNeg).toInt < rg := by
        rw [Int32.lt_iff_toInt_lt, es, nI_toInt (by omega)] at hc; exact hc
      obtain ⟨mu', lt, S'⟩ := xs_pu11a S hwc hr hm hw hp hc2
      exact xw_pu11a ho h4 hp hc (fin _ _ _ _ _ _ _ _ _ _ _ _ mu' S' (Nat.le_of_lt lt) (Or.inl lt) (pk _) tk)
    · have hT := xs_hand S hw (by rw [e]; unfold ds_H; omega)
      have cT : (xcu p0.toNatClampNeg).toNatClampNeg = dN (xcu p0.toNatClampNeg) := dN_cl (by omega)
      obtain ⟨mu', lt, S'⟩ := xs_pu11b S hwc hm hw hp
      refine xw_pu11b ho h4 hp hc rfl (dN_in rfl (by omega) (by decide)) ?_
      rw [cT]
      exact fin _ _ _ _ _ _ _ _ _ _ _ _ mu' S' (Nat.le_of_lt lt) (Or.inl lt) (pk _) tk
  · have hp : xph p0.toNatClampNeg = 12 := dN_lt e (by decide)
    rw [e] at a
    have s0 : 0 ≤ (xsb p0.toNatClampNeg).toInt := by simp only [tI] at a; unfold ds_W at a; omega
    have es := ds_slotP hr h4 s0
    have ix := ds_ixb (rg := rg) (w := p0.toNatClampNeg) (i := (xsb p0.toNatClampNeg).toInt) hr (by omega)
    have si := vp_in_nI ix (by decide)
    have ci : (nI (ds_ix rg p0.toNatClampNeg (xsb p0.toNatClampNeg).toInt)).toNatClampNeg = ds_ix rg p0.toNatClampNeg (xsb p0.toNatClampNeg).toInt := nI_clamp (by omega)
    obtain ⟨mu', lt, S'⟩ := xs_pu12 S hwc hr hw hp
    refine xw_pu12 ho h4 hp (nI_rg hr) es si ?_
    rw [ci]
    exact fin _ _ _ _ _ _ _ _ _ _ _ _ mu' S' (Nat.le_of_lt lt) (Or.inl lt) (pk _) tk
  · have hp : xph p0.toNatClampNeg = 13 := dN_lt e (by decide)
    obtain ⟨mu', lt, S'⟩ := xs_pu13 S hwc hm hw hp
    exact xw_pu13 ho h4 hp (fin _ _ _ _ _ _ _ _ _ _ _ _ mu' S' (Nat.le_of_lt lt) (Or.inl lt) (pk _) tk)
end
end
section
/-! a turn at a join counter -/
section
variable {post : SX → Prop} {k0 k1 k2 k3 k4 k5 k6 k7 k8 k9 k10 k11 k12 k13 k14 k15 k16 k17 k18 k19 fwc frg flm fst fgv fov ffl fmd fwd : Int32} {xlo xla xlb xll xce xlc xtop xbot xslo xaim xph xcu xhe xit xst xsb xpv xtr xpr xar xpa xfk xlk xnk xow xki xfo xre xbe xck xru xpc xjn xbl xrg xod xnu : Nat → Int32} {p0 : Int32} {wc rg m : Nat} {par : Nat → Nat} {dn wt : Nat → Prop} {mu : Nat}
theorem xa_rest (hwc : wc ≤ 4) (hm : m ≤ 48) (hw : p0.toNatClampNeg < wc) (h4 : vp_in p0 4) (S : xs_R wc rg m par dn wt mu p0.toNatClampNeg xtop xbot xslo xph xcu xhe xit xst xsb xpv xjn xbl)
    (fin : ∀ (xph' xcu' xhe' xbl' : Nat → Int32) (mu' : Nat), xs_S wc rg m par dn wt mu' xtop xbot xslo xph' xcu' xhe' xit xst xsb xpv xjn xbl' → mu' < mu → (∀ v, v ≠ p0.toNatClampNeg → xph' v = xph v) → post (k0, k1, k2, k3, k4, k5, k6, k7, k8, k9, k10, k11, k12, k13, k14, k15, k16, k17, k18, k19, fwc, frg, flm, fst, fgv, fov, ffl, fmd, fwd, xlo, xla, xlb, xll, xce, xlc, xtop, xbot, xslo, xaim, xph', xcu', xhe', xit, xst, xsb, xpv, xtr, xpr, xar, xpa, xfk, xlk, xnk, xow, xki, xfo, xre, xbe, xck, xru, xpc, xjn, xbl', xrg, xod, xnu)) : wpX_rest post (k0, k1, k2, k3, k4, k5, k6, k7, k8, k9, k10, k11, k12, k13, k14, k15, k16, k17, k18, k19, fwc, frg, flm, fst, fgv, fov, ffl, fmd, fwd, xlo, xla, xlb, xll, xce, xlc, xtop, xbot, xslo, xaim, xph, xcu, xhe, xit, xst, xsb, xpv, xtr, xpr, xar, xpa, xfk, xlk, xnk, xow, xki, xfo, xre, xbe, xck, xru, xpc, xjn, xbl, xrg, xod, xnu) p0 := by
  by_cases hc : xhe p0.toNatClampNeg < 0
  · obtain ⟨mu', lt, S'⟩ := xs_rest0 S hwc hm hw hc
    exact xw_rest0 h4 rfl hc (fin _ _ _ _ mu' S' lt (fun v h => us_n h))
  · obtain ⟨hT, mu', lt, S'⟩ := xs_rest1 S hwc hm hw hc
    have cT : (xhe p0.toNatClampNeg).toNatClampNeg = dN (xhe p0.toNatClampNeg) := dN_cl (by omega)
    refine xw_rest1 h4 rfl hc (dN_in rfl (by omega) (by decide)) ?_
    rw [cT]
    exact fin _ _ _ _ mu' S' lt (fun v h => us_n h)
theorem xa_join (hwc : wc ≤ 4) (hm : m ≤ 48) (ho : fov = 0) (hpar : ∀ c, 0 < c → c < m → par c < c) (hpa : ∀ t, 0 < t → t < m → xpa t = nI (par t)) (hw : p0.toNatClampNeg < wc) (h4 : vp_in p0 4) (S : xs_S wc rg m par dn wt mu xtop xbot xslo xph xcu xhe xit xst xsb xpv xjn xbl) (hph : dF xph p0.toNatClampNeg = 15 ∨ dF xph p0.toNatClampNeg = 16 ∨ dF xph p0.toNatClampNeg = 18 ∨ dF xph p0.toNatClampNeg = 19)
    (fin : ∀ (xph' xcu' xhe' xjn' xbl' : Nat → Int32) (mu' : Nat), xs_S wc rg m par dn wt mu' xtop xbot xslo xph' xcu' xhe' xit xst xsb xpv xjn' xbl' → mu' < mu → (∀ v, v ≠ p0.toNatClampNeg → xph' v = xph v) → post (k0, k1, k2, k3, k4, k5, k6, k7, k8, k9, k10, k11, k12, k13, k14, k15, k16, k17, k18, k19, fwc, frg, flm, fst, fgv, fov, ffl, fmd, fwd, xlo, xla, xlb, xll, xce, xlc, xtop, xbot, xslo, xaim, xph', xcu', xhe', xit, xst, xsb, xpv, xtr, xpr, xar, xpa, xfk, xlk, xnk, xow, xki, xfo, xre, xbe, xck, xru, xpc, xjn', xbl', xrg, xod, xnu)) : wpX_step post (k0, k1, k2, k3, k4, k5, k6, k7, k8, k9, k10, k11, k12, k13, k14, k15, k16, k17, k18, k19, fwc, frg, flm, fst, fgv, fov, ffl, fmd, fwd, xlo, xla, xlb, xll, xce, xlc, xtop, xbot, xslo, xaim, xph, xcu, xhe, xit, xst, xsb, xpv, xtr, xpr, xar, xpa, xfk, xlk, xnk, xow, xki, xfo, xre, xbe, xck, xru, xpc, xjn, xbl, xrg, xod, xnu) p0 := by
  have hT := xs_hand S hw (by unfold ds_H; omega)
  have cT : (xcu p0.toNatClampNeg).toNatClampNeg = dN (xcu p0.toNatClampNeg) := dN_cl (by omega)
  have iT : vp_in (xcu p0.toNatClampNeg) 48 := dN_in rfl (by omega) (by decide)
  rcases hph with e | e | e | e
  · have hp : xph p0.toNatClampNeg = 15 := dN_lt e (by decide)
    obtain ⟨mu', lt, S'⟩ := xs_cc S hwc hm hw hp
    refine xw_15 ho h4 hp rfl iT ?_
    rw [cT]
    exact fin _ _ _ _ _ mu' S' lt (fun v h => us_n h)
  · have hp : xph p0.toNatClampNeg = 16 := dN_lt e (by decide)
    by_cases hc : xjn (dN (xcu p0.toNatClampNeg)) - 1 = 0
    · obtain ⟨mu', lt, S'⟩ := xs_jw0 S hwc hm hw hp hc
      refine xw_16a ho h4 hp rfl iT (by rw [cT]; exact hc) ?_
      rw [cT]
      exact fin _ _ _ _ _ mu' S' lt (fun v h => us_n h)
    · obtain ⟨mu', lt, S'⟩ := xs_wait S hwc hm hw hp hc
      refine xw_16b ho h4 hp rfl iT (by rw [cT]; exact hc) ?_
      rw [cT]
      exact xa_rest hwc hm hw h4 S' (fun _ _ _ _ mu2 S2 lt2 k => fin _ _ _ _ _ mu2 S2 (by omega) k)
  · have hp : xph p0.toNatClampNeg = 18 := dN_lt e (by decide)
    obtain ⟨mu', lt, S'⟩ := xs_ra S hwc hm hw hp
    refine xw_18 ho h4 hp rfl iT ?_
    rw [cT]
    exact fin _ _ _ _ _ mu' S' lt (fun v h => us_n h)
  · have hp : xph p0.toNatClampNeg = 19 := dN_lt e (by decide)
    have h0 : 0 < dN (xcu p0.toNatClampNeg) := by
      obtain ⟨vb, tb, hn, lo, D, J, E, M, Pm⟩ := S
      exact (E.2.2.1 p0.toNatClampNeg hw e).2
    have lp := hpar _ h0 hT
    have ep := hpa _ h0 hT
    have cp : (nI (par (dN (xcu p0.toNatClampNeg)))).toNatClampNeg = par (dN (xcu p0.toNatClampNeg)) := nI_clamp (by omega)
    have ip : vp_in (nI (par (dN (xcu p0.toNatClampNeg)))) 48 := vp_in_nI (by omega) (by decide)
    refine xw_19 ho h4 hp rfl iT (p := nI (par (dN (xcu p0.toNatClampNeg)))) (by rw [cT]; exact ep) ?_
    by_cases hc : xjn (par (dN (xcu p0.toNatClampNeg))) - 1 = 0
    · obtain ⟨mu', lt, S'⟩ := xs_wake S hwc hm hpar hw hp hc
      refine xw_sig0 h4 ip (by rw [cp]; exact hc) ?_
      rw [cp]
      exact fin _ _ _ _ _ mu' S' lt (fun v h => us_n h)
    · obtain ⟨mu', lt, S'⟩ := xs_tell S hwc hm hpar hw hp hc
      refine xw_sig1 h4 ip (by rw [cp]; exact hc) ?_
      rw [cp]
      exact xa_rest hwc hm hw h4 S' (fun _ _ _ _ mu2 S2 lt2 k => fin _ _ _ _ _ mu2 S2 (by omega) k)
end
end
section
/-! a turn that carries out a line -/
section
def xr_T (g : zl_G) (lim : Nat) (p : zl_P) (m : Nat) (st : Nat → zl_T) (par kx : Nat → Nat) (kid : Nat → Nat → Nat) (pm : Nat → zl_P) (fmd fwd : Int32) (xce xlc xpr xar xpa xfk xlk xnk xow xki xfo xre xbe xck xru xpc xrg : Nat → Int32) : Prop :=
  m ≤ lim ∧ pm 0 = p ∧ (∀ t, t < m → (pm t).1 < 4) ∧ zg_G g m st par kx kid pm ∧ xt_T m st par kx kid pm fmd fwd xce xlc xpr xar xpa xfk xlk xnk xow xki xfo xre xbe xck xru xpc xrg
def xr_M (lim m : Nat) (st : Nat → zl_T) (mu : Nat) : Nat := mu + 16 * sn_s (fun t => zl_rem (st t)) m + (lim - m) * 208
theorem xr_Mu {lim m : Nat} {st : Nat → zl_T} {mu mu' t : Nat} {l' : zl_T} (ht : t < m) (h : zl_rem l' + 1 ≤ zl_rem (st t)) (hm : mu' < mu + 16) : xr_M lim m (fu st t l') mu' < xr_M lim m st mu := by
  unfold xr_M
  have a := sn_u (f := fun t => zl_rem (st t)) (t := t) (v := zl_rem l') ht
  have e : sn_s (fun i => zl_rem (fu st t l' i)) m = sn_s (fu (fun t => zl_rem (st t)) t (zl_rem l')) m := sn_c (fun i _ => by unfold fu; split <;> rfl)
  rw [e]
  omega
theorem xr_Ms {lim m : Nat} {st : Nat → zl_T} {mu mu' t : Nat} {l' : zl_T} {p : zl_P} (ht : t < m) (hl : m < lim) (h : zl_rem l' + 1 ≤ zl_rem (st t)) (hm : mu' = mu + 21) : xr_M lim (m + 1) (fu (fu st t l') m (zl_ini p)) mu' < xr_M lim m st mu := by
  unfold xr_M
  have a := sn_u (f := fun t => zl_rem (st t)) (t := t) (v := zl_rem l') ht
  have e : sn_s (fun i => zl_rem (fu (fu st t l') m (zl_ini p) i)) m = sn_s (fu (fun t => zl_rem (st t)) t (zl_rem l')) m := sn_c (fun i hi => by rw [fu_n (by omega)]; unfold fu; split <;> rfl)
  rw [sn_1, e, fu_s, show zl_rem (zl_ini p) = 12 from rfl]
  have b : (lim - m) * 208 = (lim - (m + 1)) * 208 + 208 := by
    rw [show lim - m = (lim - (m + 1)) + 1 by omega, Nat.succ_mul]
  omega
variable {post : SX → Prop} {k0 k1 k2 k3 k4 k5 k6 k7 k8 k9 k10 k11 k12 k13 k14 k15 k16 k17 k18 k19 fwc frg flm fst fgv fov ffl fmd fwd : Int32} {xlo xla xlb xll xce xlc xtop xbot xslo xaim xph xcu xhe xit xst xsb xpv xtr xpr xar xpa xfk xlk xnk xow xki xfo xre xbe xck xru xpc xjn xbl xrg xod xnu : Nat → Int32} {p0 : Int32} {wc rg lim m : Nat} {p : zl_P} {st : Nat → zl_T} {par kx : Nat → Nat} {kid : Nat → Nat → Nat} {pm : Nat → zl_P} {mu : Nat}
theorem xa_line (hwc : wc ≤ 4) (hlim : lim ≤ 48) (hlm : flm = nI lim) (PG : zl_pg (xlo, xla, xlb, fun p => (xll p).toNatClampNeg)) (hll : ∀ p, p < 4 → ∃ n, n ≤ 10 ∧ xll p = nI n) (ho : fov = 0) (hw : p0.toNatClampNeg < wc) (h4 : vp_in p0 4)
    (R : xr_T (xlo, xla, xlb, fun p => (xll p).toNatClampNeg) lim p m st par kx kid pm fmd fwd xce xlc xpr xar xpa xfk xlk xnk xow xki xfo xre xbe xck xru xpc xrg)
    (S : xs_S wc rg m par (fun t => zl_dn (st t) = true) (fun t => zl_w (xlo, xla, xlb, fun p => (xll p).toNatClampNeg) (st t)) mu xtop xbot xslo xph xcu xhe xit xst xsb xpv xjn xbl) (e : dF xph p0.toNatClampNeg = 14)
    (finF : m = lim → (∃ t, t < m ∧ zl_dn (st t) = false ∧ zl_s (xlo, xla, xlb, fun p => (xll p).toNatClampNeg) (st t)) → post (k0, k1, k2, k3, k4, k5, k6, k7, k8, k9, k10, k11, k12, k13, k14, k15, k16, k17, k18, k19, fwc, frg, flm, fst, fgv, 1, 1, fmd, fwd, xlo, xla, xlb, xll, xce, xlc, xtop, xbot, xslo, xaim, xph, xcu, xhe, xit, xst, xsb, xpv, xtr, xpr, xar, xpa, xfk, xlk, xnk, xow, xki, xfo, xre, xbe, xck, xru, xpc, xjn, xbl, xrg, xod, xnu))
    (fin : ∀ (m' : Nat) (st' : Nat → zl_T) (par' kx' : Nat → Nat) (kid' : Nat → Nat → Nat) (pm' : Nat → zl_P) (fmd' fwd' : Int32) (xce' xlc' xpr' xar' xpa' xfk' xlk' xnk' xow' xki' xfo' xre' xbe' xck' xru' xpc' xrg' xph' xit' xjn' xbl' : Nat → Int32) (mu' : Nat), xr_T (xlo, xla, xlb, fun p => (xll p).toNatClampNeg) lim p m' st' par' kx' kid' pm' fmd' fwd' xce' xlc' xpr' xar' xpa' xfk' xlk' xnk' xow' xki' xfo' xre' xbe' xck' xru' xpc' xrg' → xs_S wc rg m' par' (fun t => zl_dn (st' t) = true) (fun t => zl_w (xlo, xla, xlb, fun p => (xll p).toNatClampNeg) (st' t)) mu' xtop xbot xslo xph' xcu xhe xit' xst xsb xpv xjn' xbl' → xr_M lim m' st' mu' < xr_M lim m st mu → (∀ v, v ≠ p0.toNatClampNeg → xph' v = xph v) →
      post (k0, k1, k2, k3, k4, k5, k6, k7, k8, k9, k10, k11, k12, k13, k14, k15, k16, k17, k18, k19, fwc, frg, flm, fst, fgv, fov, ffl, fmd', fwd', xlo, xla, xlb, xll, xce', xlc', xtop, xbot, xslo, xaim, xph', xcu, xhe, xit', xst, xsb, xpv, xtr, xpr', xar', xpa', xfk', xlk', xnk', xow', xki', xfo', xre', xbe', xck', xru', xpc', xjn', xbl', xrg', xod, xnu)) : wpX_step post (k0, k1, k2, k3, k4, k5, k6, k7, k8, k9, k10, k11, k12, k13, k14, k15, k16, k17, k18, k19, fwc, frg, flm, fst, fgv, fov, ffl, fmd, fwd, xlo, xla, xlb, xll, xce, xlc, xtop, xbot, xslo, xaim, xph, xcu, xhe, xit, xst, xsb, xpv, xtr, xpr, xar, xpa, xfk, xlk, xnk, xow, xki, xfo, xre, xbe, xck, xru, xpc, xjn, xbl, xrg, xod, xnu) p0 := by
  generalize hg : ((xlo, xla, xlb, fun p => (xll p).toNatClampNeg) : zl_G) = g at *
  have g1 : g.1 = xlo := by rw [← hg]
  have g2 : g.2.1 = xla := by rw [← hg]
  have g3 : g.2.2.1 = xlb := by rw [← hg]
  have g4 : ∀ p, g.2.2.2 p = (xll p).toNatClampNeg := by rw [← hg]; exact fun _ => rfl
  obtain ⟨R1, R2, R3, R4, R5⟩ := R
  have hp : xph p0.toNatClampNeg = 14 := dN_lt e (by decide)
  have hT := xs_hand S hw (by unfold ds_H; omega)
  have ecu : xcu p0.toNatClampNeg = nI (dN (xcu p0.toNatClampNeg)) := dN_lt rfl (by omega)
  have nd : zl_dn (st (dN (xcu p0.toNatClampNeg))) = false := by
    obtain ⟨vb, tb, hn, lo, D, J, E, M, Pm⟩ := S
    have := E.2.2.2.1 p0.toNatClampNeg hw (by omega)
    exact Bool.eq_false_iff.mpr this
  generalize et : dN (xcu p0.toNatClampNeg) = t at *
  have ok := zg_ok R4 hT
  have pr4 : zl_pr (st t) < 4 := by rw [ok.2]; exact R3 t hT
  have bd := zg_b PG R4 R3 hT
  obtain ⟨T1, T2, T3, T4, T5, T6, T7, T8, T9, T10, T11, T12, T13, T14, T15, T16, T17, T18, T19⟩ := id R5
  obtain ⟨n, n1, n2⟩ := hll _ pr4
  have ct : (nI t).toNatClampNeg = t := nI_clamp (by omega)
  have cpr : (nI (zl_pr (st t))).toNatClampNeg = zl_pr (st t) := nI_clamp (by omega)
  have it : vp_in (nI t) 48 := vp_in_nI (by omega) (by decide)
  have ipr : vp_in (nI (zl_pr (st t))) 4 := vp_in_nI pr4 (by decide)
  have e1 : xpr (nI t).toNatClampNeg = nI (zl_pr (st t)) := by rw [ct]; exact T5 t hT
  have e2 : xpc (nI t).toNatClampNeg = nI (zl_pc (st t)) := by rw [ct]; exact T18 t hT
  have gn : g.2.2.2 (zl_pr (st t)) = n := by rw [g4, n2, nI_clamp (by omega)]
  have pk : ∀ q : Int32, ∀ v, v ≠ p0.toNatClampNeg → upd xph p0.toNatClampNeg q v = xph v := fun q v h => us_n h
  have ph14 : upd xph p0.toNatClampNeg 14 = xph := by rw [← hp]; exact us_id
  have wait : zl_w g (st t) → post (k0, k1, k2, k3, k4, k5, k6, k7, k8, k9, k10, k11, k12, k13, k14, k15, k16, k17, k18, k19, fwc, frg, flm, fst, fgv, fov, ffl, fmd, fwd, xlo, xla, xlb, xll, xce, xlc, xtop, xbot, xslo, xaim, upd xph p0.toNatClampNeg 16, xcu, xhe, xit, xst, xsb, xpv, xtr, xpr, xar, xpa, xfk, xlk, xnk, xow, xki, xfo, xre, xbe, xck, xru, xpc, xjn, xbl, xrg, xod, xnu) := by
    intro hwt
    obtain ⟨mu', eq, S'⟩ := xs_tab (dn' := fun t => zl_dn (st t) = true) (wt' := fun t => zl_w g (st t)) S hwc (by omega) hw e (P := 16) dn16 (by omega) (fun _ _ _ _ _ _ z => by unfold ds_W at z ⊢; omega) (fun i => by unfold ds_I; omega) (fun _ _ => Iff.rfl) (fun _ _ => Iff.rfl) (fun z => absurd z (by decide)) (fun _ => by rw [et, nd]; decide) (fun _ => by rw [et]; exact hwt)
    have b1 : mu_B 14 = 2 := rfl
    have b2 : mu_B 16 = 1 := rfl
    exact fin m st par kx kid pm _ _ _ _ _ _ _ _ _ _ _ _ _ _ _ _ _ _ _ _ _ _ _ mu' ⟨R1, R2, R3, R4, R5⟩ S' (by unfold xr_M; omega) (pk _)
  refine xw_14 ho h4 hp ecu ?_
  by_cases he : zl_e g (st t)
  · refine xl_end h4 it e1 e2 ipr ?_ (wait (Or.inl he))
    rw [cpr, n2]
    unfold zl_e at he
    exact nI_nlt (by omega) (by have := bd.1; omega)
  have he2 := he
  unfold zl_e at he2
  have hc : nI (zl_pc (st t)) < xll (nI (zl_pr (st t))).toNatClampNeg := by rw [cpr, n2]; exact nI_lt (by omega) (by omega)
  obtain ⟨q1, q2, ⟨j, q3, q4⟩, ⟨q5, q6⟩, q7⟩ := zl_lin PG pr4 he
  have e3 : nI (zl_pr (st t)) * 10 + nI (zl_pc (st t)) = nI (zl_at (st t)) := by
    show nI (zl_pr (st t)) * nI 10 + nI (zl_pc (st t)) = nI (zl_pr (st t) * 10 + zl_pc (st t))
    rw [pk_mul, nI_add]
  have il : vp_in (nI (zl_at (st t))) 40 := vp_in_nI q2 (by decide)
  have cl : (nI (zl_at (st t))).toNatClampNeg = zl_at (st t) := nI_clamp (by omega)
  have e4 : xlo (nI (zl_at (st t))).toNatClampNeg = zl_op g (st t) := by rw [cl, ← g1]; rfl
  have ela : xla (nI (zl_at (st t))).toNatClampNeg = nI (zl_la g (st t)) := by rw [cl, ← g2]; exact q5
  have ea4 : nI t * 4 + nI (zl_la g (st t)) = nI (4 * t + zl_la g (st t)) := by
    show nI t * nI 4 + nI (zl_la g (st t)) = _
    rw [pk_mul, nI_add, Nat.mul_comm]
  have ia4 : vp_in (nI (4 * t + zl_la g (st t))) 192 := vp_in_nI (by omega) (by decide)
  have ca4 : (nI (4 * t + zl_la g (st t))).toNatClampNeg = 4 * t + zl_la g (st t) := nI_clamp (by omega)
  have elb : xlb (nI (zl_at (st t))).toNatClampNeg = zl_lb g (st t) := by rw [cl, ← g3]; rfl
  have lbr : (zl_op g (st t) = 1 ∨ zl_op g (st t) = 2 ∨ zl_op g (st t) = 3 ∨ zl_op g (st t) = 4 ∨ zl_op g (st t) = 8 ∨ zl_op g (st t) = 10) → nI t * 4 + xlb (nI (zl_at (st t))).toNatClampNeg = nI (4 * t + zl_lr g (st t)) ∧ zl_lr g (st t) < 4 := by
    intro z
    obtain ⟨z1, z2⟩ := q7 z
    rw [cl, ← g3, z1]
    refine ⟨?_, z2⟩
    show nI t * nI 4 + nI (zl_lr g (st t)) = _
    rw [pk_mul, nI_add, Nat.mul_comm]
  have rgt : ∀ r, r < 4 → xrg (4 * t + r) = zl_rg (st t) r := fun r hr => T19 t r hT hr
  by_cases h9 : zl_op g (st t) = 9
  · exact xl_wait h4 it e1 e2 ipr hc e3 il e4 (Or.inl h9) (wait (Or.inr (Or.inl h9)))
  by_cases h11 : zl_op g (st t) = 11
  · exact xl_wait h4 it e1 e2 ipr hc e3 il e4 (Or.inr h11) (wait (Or.inr (Or.inr h11)))
  have nw : ¬ zl_w g (st t) := by
    rintro (z | z | z)
    · exact he z
    · exact h9 z
    · exact h11 z
  -- the lines that are carried out here and spawn nothing
  have run : ∀ (l' : zl_T) (fwd' : Int32) (xce' xlc' xck' xpc' xrg' : Nat → Int32), zl_nx g (zg_o st kid t) (st t) = l' → ¬ zl_s g (st t) → zl_dn l' = false → xt_T m (fu st t l') par kx kid pm fmd fwd' xce' xlc' xpr xar xpa xfk xlk xnk xow xki xfo xre xbe xck' xru xpc' xrg' → post (k0, k1, k2, k3, k4, k5, k6, k7, k8, k9, k10, k11, k12, k13, k14, k15, k16, k17, k18, k19, fwc, frg, flm, fst, fgv, fov, ffl, fmd, fwd', xlo, xla, xlb, xll, xce', xlc', xtop, xbot, xslo, xaim, xph, xcu, xhe, xit, xst, xsb, xpv, xtr, xpr, xar, xpa, xfk, xlk, xnk, xow, xki, xfo, xre, xbe, xck', xru, xpc', xjn, xbl, xrg', xod, xnu) := by
    intro l' fwd' xce' xlc' xck' xpc' xrg' el hs dl T'
    have G' := zg_1 R4 hT nd hs (fun z => absurd z nw)
    have nb := zl_nxb PG (zg_o st kid t) pr4 nd bd
    rw [el] at G' nb
    obtain ⟨mu', eq, S'⟩ := xs_tab (dn' := fun i => zl_dn (fu st t l' i) = true) (wt' := fun i => zl_w g (fu st t l' i)) S hwc (by omega) hw e (P := 14) dn14 (by omega) (fun _ _ _ _ _ _ z => z) (fun i => Iff.rfl) (fun i hi => by rw [et] at hi; rw [fu_n hi]) (fun i hi => by rw [et] at hi; rw [fu_n hi]) (fun z => absurd z (by decide)) (fun _ => by rw [et, fu_s, dl]; decide) (fun z => absurd z (by decide))
    rw [ph14] at S'
    exact fin m (fu st t l') par kx kid pm _ _ _ _ _ _ _ _ _ _ _ _ _ _ _ _ _ _ _ _ _ _ _ mu' ⟨R1, R2, R3, G', T'⟩ S' (xr_Mu hT nb.2.1 (by omega)) (fun _ _ => rfl)
  by_cases h8 : zl_op g (st t) = 8
  · have hs : zl_s g (st t) := ⟨he, h8⟩
    rw [h8] at e4
    by_cases hfull : fmd < flm
    · rw [T1, hlm, nI_ltI (by omega) (by omega)] at hfull
      refine xl_105 it e1 e2 ipr hc e3 il e4 (by decide) (by decide) (fun _ => by rw [T1, hlm, nI_ltI (by omega) (by omega)]; exact hfull) ?_
      refine xl_spw it il ?_
      obtain ⟨b1, b2⟩ := lbr (by rw [h8]; decide)
      have im : vp_in fmd 48 := by rw [T1]; exact vp_in_nI (by omega) (by decide)
      have cm : fmd.toNatClampNeg = m := by rw [T1]; exact nI_clamp (by omega)
      have em : fmd * 4 = nI (4 * m) := by
        rw [T1]
        show nI m * nI 4 = _
        rw [pk_mul, Nat.mul_comm]
      have c0 : (nI (4 * m)).toNatClampNeg = 4 * m := nI_clamp (by omega)
      have c1 : (nI (4 * m) + 1).toNatClampNeg = 4 * m + 1 := by rw [nI_1]; exact nI_clamp (by omega)
      have c2 : (nI (4 * m) + 2).toNatClampNeg = 4 * m + 2 := by
        show (nI (4 * m) + nI 2).toNatClampNeg = _
        rw [nI_add]; exact nI_clamp (by omega)
      have c3 : (nI (4 * m) + 3).toNatClampNeg = 4 * m + 3 := by
        show (nI (4 * m) + nI 3).toNatClampNeg = _
        rw [nI_add]; exact nI_clamp (by omega)
      have bi : ∀ x : Int32, x.toNatClampNeg < 192 → 0 ≤ x → vp_in x 192 := fun x h1 h2 => by
        unfold vp_in
        rintro (z | z)
        · exact absurd z (Int32.not_lt.mpr h2)
        · omega
      have ib : vp_in (nI (4 * m)) 192 ∧ vp_in (nI (4 * m) + 1) 192 ∧ vp_in (nI (4 * m) + 2) 192 ∧ vp_in (nI (4 * m) + 3) 192 := by
        refine ⟨vp_in_nI (by omega) (by decide), ?_, ?_, ?_⟩
        · rw [nI_1]; exact vp_in_nI (by omega) (by decide)
        · show vp_in (nI (4 * m) + nI 2) 192
          rw [nI_add]; exact vp_in_nI (by omega) (by decide)
        · show vp_in (nI (4 * m) + nI 3) 192
          rw [nI_add]; exact vp_in_nI (by omega) (by decide)
      have cb : (nI (4 * t + zl_lr g (st t))).toNatClampNeg = 4 * t + zl_lr g (st t) := nI_clamp (by omega)
      refine xl_spawn (b := nI (4 * m)) h4 it il (by rw [b1]; exact vp_in_nI (by omega) (by decide)) im em ib (by rw [ct, cm]; omega) ?_ ?_
      · rw [ct]
        intro z
        have k0 : 0 < zl_nk (st t) := by
          rcases Nat.eq_zero_or_pos (zl_nk (st t)) with y | y
          · rw [T9 t hT, if_neg (by omega)] at z; exact absurd z (by decide)
          · exact y
        rw [T10 t hT k0]
        have := (R4.2.2.1 t (zl_nk (st t) - 1) hT (by omega)).2.1
        exact vp_in_nI (by omega) (by decide)
      · intro fk' nk' ow' hf ho'
        rw [b1, ct, cm, c0, c1, c2, c3, cb, cl, T1]
        rw [ct, cm, T1] at hf ho'
        rw [cl] at ela
        rw [ela]
        have G' := zg_2 R4 hT nd hs (zg_o st kid t)
        have T' := xt_sp R4 R5 (by omega) hT nd hs (zg_o st kid t) (ln := zl_at (st t)) rfl (A := xrg (4 * t + zl_lr g (st t))) (rgt _ b2) (P := nI (zl_pc (st t))) (T18 t hT) hf ho'
        have nb := zl_nxb PG (zg_o st kid t) pr4 nd bd
        have lt : m < lim := hfull
        obtain ⟨mu', eq, S'⟩ := xs_spawn (dn' := fun i => zl_dn (fu (fu st t (zl_nx g (zg_o st kid t) (st t))) m (zl_ini (zl_la g (st t), zl_rg (st t) (zl_lr g (st t)), zl_ck (st t) + 1)) i) = true) (wt' := fun i => zl_w g (fu (fu st t (zl_nx g (zg_o st kid t) (st t))) m (zl_ini (zl_la g (st t), zl_rg (st t) (zl_lr g (st t)), zl_ck (st t) + 1)) i)) S hwc R4.1 (by omega) (fun c a b => (R4.2.1 c a b).1) hw hp
          (fun i h1 h2 => by rw [et] at h2; rw [fu_n (by omega), fu_n h2]) (fun i h1 h2 => by rw [et] at h2; rw [fu_n (by omega), fu_n h2]) (by rw [fu_s]; exact fun z => absurd (show false = true from z) (by decide)) (by rw [et, fu_n (by omega), fu_s, (zl_n1 g (zg_o st kid t) (st t) nd).2.1 hs |>.2.2]; decide)
        rw [et] at S'
        refine fin (m + 1) _ _ _ _ _ _ _ _ _ _ _ _ _ _ _ _ _ _ _ _ _ _ _ _ _ _ _ _ mu' ⟨by omega, ?_, ?_, G', T'⟩ S' (xr_Ms hT lt nb.2.1 eq) (pk _)
        · rw [fu_n (by have := R4.1; omega)]; exact R2
        · intro i hi
          by_cases q : i = m
          · subst q; rw [fu_s]; exact q6
          · rw [fu_n q]; exact R3 i (by omega)
    · refine xl_fail it e1 e2 ipr hc e3 il e4 hfull (finF ?_ ⟨t, hT, nd, hs⟩)
      rw [T1, hlm, nI_ltI (by omega) (by omega)] at hfull
      omega
  have hs : ¬ zl_s g (st t) := fun z => h8 z.2
  refine xl_105 it e1 e2 ipr hc e3 il e4 h9 h11 (fun z => absurd z h8) ?_
  have Tow := T12 t hT
  have Tfo := T14 t hT
  have Tre := T15 t hT
  have Tru := T17 t hT
  have Tck := T16 t hT
  by_cases h10 : zl_op g (st t) = 10
  · rw [h10] at e4 ⊢
    obtain ⟨b1, b2⟩ := lbr (by rw [h10]; decide)
    have cb : (nI (4 * t + zl_lr g (st t))).toNatClampNeg = 4 * t + zl_lr g (st t) := nI_clamp (by omega)
    have ca : (nI (zl_la g (st t))).toNatClampNeg = zl_la g (st t) := nI_clamp (by omega)
    refine xl_tally it il ela b1 (vp_in_nI q6 (by decide)) (vp_in_nI (by omega) (by decide)) ?_
    rw [ct, cl, ca, cb, rgt _ b2]
    have el := zl_x10 (g := g) (o := zg_o st kid t) nd he h10
    have T' := xt_up R5 hT (l' := zl_nx g (zg_o st kid t) (st t)) (fwd' := fwd + 1) (xce' := upd xce (zl_la g (st t)) (xce (zl_la g (st t)) + zl_rg (st t) (zl_lr g (st t)))) (xlc' := upd xlc (zl_at (st t)) (xlc (zl_at (st t)) + 1)) (xrg' := xrg) (Vck := xck t + 1) (Vpc := nI (zl_pc (st t)) + 1) (Vre := xre t) (Vru := xru t) (Vfo := xfo t) (Vow := xow t)
      (by rw [el]; rfl) (by rw [el]; rfl) (by rw [el, Tck]; rfl) (by rw [el, nI_1]; rfl) (by rw [el, Tre]; rfl) (by rw [el, Tru, nd]; rfl) (by rw [el, Tfo]; rfl) (by rw [el, Tow]; rfl) (by rw [el]; exact rgt) (fun _ _ _ _ => rfl) (by rw [el]; exact xt_ce) (by rw [el]; exact fun i _ => xt_lc) (by rw [el]; exact i32_s _ _)
    simp only [us_id] at T'
    exact run _ _ _ _ _ _ _ rfl hs (by rw [el]; rfl) T'
  by_cases h67 : zl_op g (st t) = 6 ∨ zl_op g (st t) = 7
  · refine xl_test it il (a := nI (4 * t + zl_la g (st t))) (by rw [ela]; exact ea4) ia4 e4 h67 (fun z hz => ?_)
    rw [ca4, elb, rgt _ q6] at hz
    rw [ct, cl]
    have bx := zl_x6 (g := g) (o := zg_o st kid t) nd he h67 rfl
    by_cases hcond : (zl_op g (st t) = 6 ∧ zl_rg (st t) (zl_la g (st t)) < zl_lb g (st t)) ∨ (zl_op g (st t) = 7 ∧ zl_rg (st t) (zl_la g (st t)) = zl_lb g (st t))
    · rw [if_pos hcond] at bx
      have T' := xt_up R5 hT (l' := zl_nx g (zg_o st kid t) (st t)) (fwd' := fwd + 1) (xce' := xce) (xlc' := upd xlc (zl_at (st t)) (xlc (zl_at (st t)) + 1)) (xrg' := xrg) (Vck := xck t + 1) (Vpc := nI (zl_pc (st t)) + 1) (Vre := xre t) (Vru := xru t) (Vfo := xfo t) (Vow := xow t)
        (by rw [bx]; rfl) (by rw [bx]; rfl) (by rw [bx, Tck]; rfl) (by rw [bx, nI_1]; rfl) (by rw [bx, Tre]; rfl) (by rw [bx, Tru, nd]; rfl) (by rw [bx, Tfo]; rfl) (by rw [bx, Tow]; rfl) (by rw [bx]; exact rgt) (fun _ _ _ _ => rfl) (by rw [bx]; exact fun _ _ => rfl) (by rw [bx]; exact fun i _ => xt_lc) (by rw [bx]; exact i32_s _ _)
      simp only [us_id] at T'
      exact xl_test1 (fun y => hz.mp y hcond) (run _ _ _ _ _ _ _ rfl hs (by rw [bx]; rfl) T')
    · rw [if_neg hcond] at bx
      have z0 : z = 0 := hz.mpr hcond
      subst z0
      have T' := xt_up R5 hT (l' := zl_nx g (zg_o st kid t) (st t)) (fwd' := fwd + 1) (xce' := xce) (xlc' := upd xlc (zl_at (st t)) (xlc (zl_at (st t)) + 1)) (xrg' := xrg) (Vck := xck t + 1) (Vpc := nI (zl_pc (st t)) + 1 + 1) (Vre := xre t) (Vru := xru t) (Vfo := xfo t) (Vow := xow t)
        (by rw [bx]; rfl) (by rw [bx]; rfl) (by rw [bx, Tck]; rfl) (by rw [bx, nI_1, nI_1]; rfl) (by rw [bx, Tre]; rfl) (by rw [bx, Tru, nd]; rfl) (by rw [bx, Tfo]; rfl) (by rw [bx, Tow]; rfl) (by rw [bx]; exact rgt) (fun _ _ _ _ => rfl) (by rw [bx]; exact fun _ _ => rfl) (by rw [bx]; exact fun i _ => xt_lc) (by rw [bx]; exact i32_s _ _)
      simp only [us_id] at T'
      refine xl_test0 it ?_
      rw [ct, us_s, us_us]
      exact run _ _ _ _ _ _ _ rfl hs (by rw [bx]; rfl) T'
  have j5 : j ≤ 5 := by
    have n9 : j ≠ 9 := fun z => h9 (by rw [q4, z]; rfl)
    have n11 : j ≠ 11 := fun z => h11 (by rw [q4, z]; rfl)
    have n8 : j ≠ 8 := fun z => h8 (by rw [q4, z]; rfl)
    have n10 : j ≠ 10 := fun z => h10 (by rw [q4, z]; rfl)
    have n6 : j ≠ 6 := fun z => h67 (Or.inl (by rw [q4, z]; rfl))
    have n7 : j ≠ 7 := fun z => h67 (Or.inr (by rw [q4, z]; rfl))
    omega
  have bx := zl_xc (g := g) (o := zg_o st kid t) nd he j5 q4
  refine xl_comp (bv := zl_rg (st t) (zl_lr g (st t))) it il (a := nI (4 * t + zl_la g (st t))) (by rw [ela]; exact ea4) ia4 e4 (by rw [q4]; exact nI_pos (by omega)) (by rw [q4]; exact nI_nlt (a := 5) (b := j) (by omega) (by decide)) ?_ ?_
  · intro z
    obtain ⟨b1, b2⟩ := lbr (by rcases z with z | z | z | z <;> simp [z])
    rw [b1]
    refine ⟨vp_in_nI (by omega) (by decide), ?_⟩
    rw [nI_clamp (by omega)]; exact rgt _ b2
  · rw [ct, cl, ca4, ← cl, elb, cl, rgt _ q6]
    have T' := xt_up R5 hT (l' := zl_nx g (zg_o st kid t) (st t)) (fwd' := fwd + 1) (xce' := xce) (xlc' := upd xlc (zl_at (st t)) (xlc (zl_at (st t)) + 1)) (xrg' := upd xrg (4 * t + zl_la g (st t)) (zl_cv (zl_op g (st t)) (zl_rg (st t) (zl_la g (st t))) (zl_rg (st t) (zl_lr g (st t))) (zl_lb g (st t)))) (Vck := xck t + 1) (Vpc := nI (zl_pc (st t)) + 1) (Vre := xre t) (Vru := xru t) (Vfo := xfo t) (Vow := xow t)
      (by rw [bx]; rfl) (by rw [bx]; rfl) (by rw [bx, Tck]; rfl) (by rw [bx, nI_1]; rfl) (by rw [bx, Tre]; rfl) (by rw [bx, Tru, nd]; rfl) (by rw [bx, Tfo]; rfl) (by rw [bx, Tow]; rfl) (by rw [bx]; exact xt_rg rgt) (xt_rg2 q6) (by rw [bx]; exact fun _ _ => rfl) (by rw [bx]; exact fun i _ => xt_lc) (by rw [bx]; exact i32_s _ _)
    simp only [us_id] at T'
    exact run _ _ _ _ _ _ _ rfl hs (by rw [bx]; rfl) T'
end
end
section
/-! the turn in which a task that waited goes on or ends -/
section
variable {post : SX → Prop} {k0 k1 k2 k3 k4 k5 k6 k7 k8 k9 k10 k11 k12 k13 k14 k15 k16 k17 k18 k19 fwc frg flm fst fgv fov ffl fmd fwd : Int32} {xlo xla xlb xll xce xlc xtop xbot xslo xaim xph xcu xhe xit xst xsb xpv xtr xpr xar xpa xfk xlk xnk xow xki xfo xre xbe xck xru xpc xjn xbl xrg xod xnu : Nat → Int32} {p0 : Int32} {wc rg lim m : Nat} {p : zl_P} {st : Nat → zl_T} {par kx : Nat → Nat} {kid : Nat → Nat → Nat} {pm : Nat → zl_P} {mu : Nat}
theorem xa_comp (hwc : wc ≤ 4) (hlim : lim ≤ 48) (PG : zl_pg (xlo, xla, xlb, fun p => (xll p).toNatClampNeg)) (hll : ∀ p, p < 4 → ∃ n, n ≤ 10 ∧ xll p = nI n) (ho : fov = 0) (hw : p0.toNatClampNeg < wc) (h4 : vp_in p0 4)
    (R : xr_T (xlo, xla, xlb, fun p => (xll p).toNatClampNeg) lim p m st par kx kid pm fmd fwd xce xlc xpr xar xpa xfk xlk xnk xow xki xfo xre xbe xck xru xpc xrg)
    (S : xs_S wc rg m par (fun t => zl_dn (st t) = true) (fun t => zl_w (xlo, xla, xlb, fun p => (xll p).toNatClampNeg) (st t)) mu xtop xbot xslo xph xcu xhe xit xst xsb xpv xjn xbl) (e : dF xph p0.toNatClampNeg = 17)
    (finO : ∀ (st' : Nat → zl_T) (fwd' : Int32) (xlc' xow' xfo' xre' xck' xru' xpc' xrg' : Nat → Int32), xr_T (xlo, xla, xlb, fun p => (xll p).toNatClampNeg) lim p m st' par kx kid pm fmd fwd' xce xlc' xpr xar xpa xfk xlk xnk xow' xki xfo' xre' xbe xck' xru' xpc' xrg' → (∀ t, t < m → zl_dn (st' t) = true) → post (k0, k1, k2, k3, k4, k5, k6, k7, k8, k9, k10, k11, k12, k13, k14, k15, k16, k17, k18, k19, fwc, frg, flm, fst, fgv, 1, ffl, fmd, fwd', xlo, xla, xlb, xll, xce, xlc', xtop, xbot, xslo, xaim, xph, xcu, xhe, xit, xst, xsb, xpv, xtr, xpr, xar, xpa, xfk, xlk, xnk, xow', xki, xfo', xre', xbe, xck', xru', xpc', xjn, xbl, xrg', xod, xnu))
    (fin : ∀ (st' : Nat → zl_T) (fwd' : Int32) (xlc' xow' xfo' xre' xck' xru' xpc' xrg' xph' : Nat → Int32) (mu' : Nat), xr_T (xlo, xla, xlb, fun p => (xll p).toNatClampNeg) lim p m st' par kx kid pm fmd fwd' xce xlc' xpr xar xpa xfk xlk xnk xow' xki xfo' xre' xbe xck' xru' xpc' xrg' → xs_S wc rg m par (fun t => zl_dn (st' t) = true) (fun t => zl_w (xlo, xla, xlb, fun p => (xll p).toNatClampNeg) (st' t)) mu' xtop xbot xslo xph' xcu xhe xit xst xsb xpv xjn xbl → xr_M lim m st' mu' < xr_M lim m st mu → (∀ v, v ≠ p0.toNatClampNeg → xph' v = xph v) →
      post (k0, k1, k2, k3, k4, k5, k6, k7, k8, k9, k10, k11, k12, k13, k14, k15, k16, k17, k18, k19, fwc, frg, flm, fst, fgv, fov, ffl, fmd, fwd', xlo, xla, xlb, xll, xce, xlc', xtop, xbot, xslo, xaim, xph', xcu, xhe, xit, xst, xsb, xpv, xtr, xpr, xar, xpa, xfk, xlk, xnk, xow', xki, xfo', xre', xbe, xck', xru', xpc', xjn, xbl, xrg', xod, xnu)) : wpX_step post (k0, k1, k2, k3, k4, k5, k6, k7, k8, k9, k10, k11, k12, k13, k14, k15, k16, k17, k18, k19, fwc, frg, flm, fst, fgv, fov, ffl, fmd, fwd, xlo, xla, xlb, xll, xce, xlc, xtop, xbot, xslo, xaim, xph, xcu, xhe, xit, xst, xsb, xpv, xtr, xpr, xar, xpa, xfk, xlk, xnk, xow, xki, xfo, xre, xbe, xck, xru, xpc, xjn, xbl, xrg, xod, xnu) p0 := by
  generalize hg : ((xlo, xla, xlb, fun p => (xll p).toNatClampNeg) : zl_G) = g at *
  have g1 : g.1 = xlo := by rw [← hg]
  have g2 : g.2.1 = xla := by rw [← hg]
  have g3 : g.2.2.1 = xlb := by rw [← hg]
  have g4 : ∀ p, g.2.2.2 p = (xll p).toNatClampNeg := by rw [← hg]; exact fun _ => rfl
  obtain ⟨R1, R2, R3, R4, R5⟩ := R
  have hp : xph p0.toNatClampNeg = 17 := dN_lt e (by decide)
  have hT := xs_hand S hw (by unfold ds_H; omega)
  have ecu : xcu p0.toNatClampNeg = nI (dN (xcu p0.toNatClampNeg)) := dN_lt rfl (by omega)
  obtain ⟨kd, hwt, nd0⟩ := xs_kids S hw e
  have nd : zl_dn (st (dN (xcu p0.toNatClampNeg))) = false := Bool.eq_false_iff.mpr nd0
  generalize et : dN (xcu p0.toNatClampNeg) = t at *
  have ok := zg_ok R4 hT
  have pr4 : zl_pr (st t) < 4 := by rw [ok.2]; exact R3 t hT
  have bd := zg_b PG R4 R3 hT
  obtain ⟨T1, T2, T3, T4, T5, T6, T7, T8, T9, T10, T11, T12, T13, T14, T15, T16, T17, T18, T19⟩ := id R5
  obtain ⟨n, n1, n2⟩ := hll _ pr4
  have ct : (nI t).toNatClampNeg = t := nI_clamp (by omega)
  have cpr : (nI (zl_pr (st t))).toNatClampNeg = zl_pr (st t) := nI_clamp (by omega)
  have it : vp_in (nI t) 48 := vp_in_nI (by omega) (by decide)
  have ipr : vp_in (nI (zl_pr (st t))) 4 := vp_in_nI pr4 (by decide)
  have gn : g.2.2.2 (zl_pr (st t)) = n := by rw [g4, n2, nI_clamp (by omega)]
  have hs : ¬ zl_s g (st t) := fun z => zl_sw z hwt
  have nkm : zl_nk (st t) ≤ 48 := by have := bd.1; have := bd.2.2.2; omega
  have K2 : ∀ k, k < zl_nk (st t) → kid t k < 48 ∧ kid t k ≠ t ∧ xnk (kid t k) = if k + 1 < zl_nk (st t) then nI (kid t (k + 1)) else -1 := by
    intro k hk
    obtain ⟨x1, x2, x3, x4, x5⟩ := R4.2.2.1 t k hT hk
    refine ⟨by omega, by omega, ?_⟩
    rw [T11 _ x2, x3, x4]
    by_cases q : k + 1 < zl_nk (st t)
    · rw [if_pos ⟨by omega, q⟩, if_pos q]
    · rw [if_neg (fun z => q z.2), if_neg q]
  have G' := zg_1 R4 hT nd hs (fun _ k _ hk => by
    obtain ⟨x1, x2, x3, x4, x5⟩ := R4.2.2.1 t k hT hk
    exact kd _ (by omega) x2 x3)
  have nb := zl_nxb PG (zg_o st kid t) pr4 nd bd
  have omx : ∀ c, zl_mx (fun k => (xre (kid t k), xck (kid t k))) c (zl_ow (st t)) (zl_nk (st t) - zl_ow (st t)) = zl_mx (zg_o st kid t) c (zl_ow (st t)) (zl_nk (st t) - zl_ow (st t)) := fun c => zl_mxc1 (fun k h1 h2 => by
    have x2 := (R4.2.2.1 t k hT (by omega)).2.1
    exact T16 _ x2)
  have pk : ∀ q : Int32, ∀ v, v ≠ p0.toNatClampNeg → upd xph p0.toNatClampNeg q v = xph v := fun q v h => us_n h
  -- what an end of the task leads to
  have fine : ∀ (z : Int32) (fwd' : Int32) (xlc' xck' : Nat → Int32), zl_dn (zl_nx g (zg_o st kid t) (st t)) = true → xt_T m (fu st t (zl_nx g (zg_o st kid t) (st t))) par kx kid pm fmd fwd' xce xlc' xpr xar xpa xfk xlk xnk xow xki xfo (upd xre t z) xbe xck' (upd xru t (xru t + 1)) xpc xrg → wX_complete_128 post p0 (nI t) z (nI t) k0 k1 k2 k3 k4 k5 k6 k7 k8 k9 k10 k11 k12 k13 k14 k15 k16 k17 k18 k19 fwc frg flm fst fgv fov ffl fmd fwd' xlo xla xlb xll xce xlc' xtop xbot xslo xaim xph xcu xhe xit xst xsb xpv xtr xpr xar xpa xfk xlk xnk xow xki xfo xre xbe xck' xru xpc xjn xbl xrg xod xnu := by
    intro z fwd' xlc' xck' dl T'
    refine xc_128 h4 it ?_ ?_
    · rw [ct]
      intro hpa
      have t0 : 0 < t := by
        rcases Nat.eq_zero_or_pos t with y | y
        · rw [T8 t hT, if_pos y] at hpa; exact absurd hpa (by decide)
        · exact y
      obtain ⟨mu', eq, S'⟩ := xs_tab (dn' := fun i => zl_dn (fu st t (zl_nx g (zg_o st kid t) (st t)) i) = true) (wt' := fun i => zl_w g (fu st t (zl_nx g (zg_o st kid t) (st t)) i)) S hwc (by omega) hw e (P := 19) dn19 (by omega) (fun _ _ _ _ _ _ z => by unfold ds_W at z ⊢; omega) (fun i => by unfold ds_I; omega) (fun i hi => by rw [et] at hi; rw [fu_n hi]) (fun i hi => by rw [et] at hi; rw [fu_n hi]) (fun _ => by rw [et, fu_s]; exact ⟨dl, t0⟩) (fun z => absurd z (by decide)) (fun z => absurd z (by decide))
      have b1 : mu_B 17 = 0 := rfl
      have b2 : mu_B 19 = 1 := rfl
      exact fin _ _ _ _ _ _ _ _ _ _ _ mu' ⟨R1, R2, R3, G', T'⟩ S' (xr_Mu hT nb.2.1 (by omega)) (pk _)
    · rw [ct]
      intro hpa
      have t0 : t = 0 := by
        rcases Nat.eq_zero_or_pos t with y | y
        · exact y
        · have := (R4.2.1 t y hT).1
          rw [T8 t hT, if_neg (by omega)] at hpa
          exact absurd (nI_pos' (by omega)) hpa
      refine finO _ _ _ _ _ _ _ _ _ _ ⟨R1, R2, R3, G', T'⟩ (zg_all G' ?_)
      rw [← t0, fu_s]; exact dl
  have rgt : ∀ r, r < 4 → xrg (4 * t + r) = zl_rg (st t) r := fun r hr => T19 t r hT hr
  have Tow := T12 t hT
  have Tfo := T14 t hT
  have Tre := T15 t hT
  have Tru := T17 t hT
  have Tck := T16 t hT
  have Tpc := T18 t hT
  refine xw_17 ho h4 hp ecu ?_
  by_cases he : zl_e g (st t)
  · have el := zl_xe (g := g) (o := zg_o st kid t) nd he
    have he2 := he
    unfold zl_e at he2
    refine xc_end (kk := kid t) (n := zl_nk (st t)) (k := zl_ow (st t)) (by omega) (T5 t hT) (T18 t hT) ipr ?_ ok.1 nkm (T12 t hT) K2 ?_
    · rw [cpr, n2]; exact nI_le (by omega) (by have := bd.1; omega)
    · rw [omx]
      have T' := xt_up R5 hT (l' := zl_nx g (zg_o st kid t) (st t)) (fwd' := fwd) (xce' := xce) (xlc' := xlc) (xrg' := xrg) (Vck := zl_mx (zg_o st kid t) (xck t) (zl_ow (st t)) (zl_nk (st t) - zl_ow (st t))) (Vpc := xpc t) (Vre := 0) (Vru := xru t + 1) (Vfo := xfo t) (Vow := xow t)
        (by rw [el]; rfl) (by rw [el]; rfl) (by rw [el, Tck]; rfl) (by rw [el, Tpc]; rfl) (by rw [el]; rfl) (by rw [el, Tru, nd]; rfl) (by rw [el, Tfo]; rfl) (by rw [el, Tow]; rfl) (by rw [el]; exact rgt) (fun _ _ _ _ => rfl) (by rw [el]; exact fun _ _ => rfl) (by rw [el]; exact fun _ _ => rfl) (by rw [el]; rfl)
      simp only [us_id] at T'
      exact fine _ _ _ _ (by rw [el]; rfl) T'
  have he2 := he
  unfold zl_e at he2
  have hc : ¬ xll (nI (zl_pr (st t))).toNatClampNeg ≤ nI (zl_pc (st t)) := by rw [cpr, n2]; exact nI_ge (by omega) (by omega)
  obtain ⟨q1, q2, ⟨j, q3, q4⟩, ⟨q5, q6⟩, q7⟩ := zl_lin PG pr4 he
  have e3 : nI (zl_pr (st t)) * 10 + nI (zl_pc (st t)) = nI (zl_at (st t)) := by
    show nI (zl_pr (st t)) * nI 10 + nI (zl_pc (st t)) = nI (zl_pr (st t) * 10 + zl_pc (st t))
    rw [pk_mul, nI_add]
  have il : vp_in (nI (zl_at (st t))) 40 := vp_in_nI q2 (by decide)
  have cl : (nI (zl_at (st t))).toNatClampNeg = zl_at (st t) := nI_clamp (by omega)
  have e4 : xlo (nI (zl_at (st t))).toNatClampNeg = zl_op g (st t) := by rw [cl, ← g1]; rfl
  have ela : xla (nI (zl_at (st t))).toNatClampNeg = nI (zl_la g (st t)) := by rw [cl, ← g2]; exact q5
  have elb : xlb (nI (zl_at (st t))).toNatClampNeg = zl_lb g (st t) := by rw [cl, ← g3]; rfl
  refine xc_line (kk := kid t) (n := zl_nk (st t)) (k := zl_ow (st t)) (by omega) (T5 t hT) (T18 t hT) ipr hc e3 il ok.1 nkm (T12 t hT) K2 ?_
  rw [omx, cl]
  rcases hwt with z | h9 | h11
  · exact absurd z he
  · have el := zl_x9 (g := g) (o := zg_o st kid t) nd he h9
    rw [h9] at e4
    refine xc_sync (kk := kid t) (n := zl_nk (st t)) (k := zl_ow (st t)) h4 (by omega) il e4 q6 ela rfl elb ok.1 nkm (T12 t hT) (T14 t hT) K2 ?_
    have ofo : zl_fo (fun k => (xre (kid t k), upd xck t (zl_mx (zg_o st kid t) (xck t) (zl_ow (st t)) (zl_nk (st t) - zl_ow (st t)) + 1) (kid t k))) (zl_lb g (st t)) (xrg (4 * t + zl_la g (st t))) (zl_ow (st t)) (zl_nk (st t) - zl_ow (st t)) = zl_fo (zg_o st kid t) (zl_lb g (st t)) (zl_rg (st t) (zl_la g (st t))) (zl_ow (st t)) (zl_nk (st t) - zl_ow (st t)) := by
      rw [rgt _ q6]
      exact zl_foc1 (fun k h1 h2 => by
        have x2 := (R4.2.2.1 t k hT (by omega)).2.1
        exact T15 _ x2)
    rw [ofo]
    have T' := xt_up R5 hT (l' := zl_nx g (zg_o st kid t) (st t)) (fwd' := fwd + 1) (xce' := xce) (xlc' := upd xlc (zl_at (st t)) (xlc (zl_at (st t)) + 1)) (xrg' := upd xrg (4 * t + zl_la g (st t)) (zl_fo (zg_o st kid t) (zl_lb g (st t)) (zl_rg (st t) (zl_la g (st t))) (zl_ow (st t)) (zl_nk (st t) - zl_ow (st t)))) (Vck := zl_mx (zg_o st kid t) (xck t) (zl_ow (st t)) (zl_nk (st t) - zl_ow (st t)) + 1) (Vpc := xpc t + 1) (Vre := xre t) (Vru := xru t) (Vfo := nI (zl_nk (st t))) (Vow := -1)
      (by rw [el]; rfl) (by rw [el]; rfl) (by rw [el, Tck]; rfl) (by rw [el, Tpc, nI_1]; rfl) (by rw [el, Tre]; rfl) (by rw [el, Tru, nd]; rfl) (by rw [el]; rfl) (by rw [el]; exact (if_neg (show ¬ zl_nk (st t) < zl_nk (st t) from Nat.lt_irrefl _)).symm) (by rw [el]; exact xt_rg rgt) (xt_rg2 q6) (by rw [el]; exact fun _ _ => rfl) (by rw [el]; exact fun i _ => xt_lc) (by rw [el]; exact i32_s _ _)
    simp only [us_id] at T'
    obtain ⟨mu', eq, S'⟩ := xs_tab (dn' := fun i => zl_dn (fu st t (zl_nx g (zg_o st kid t) (st t)) i) = true) (wt' := fun i => zl_w g (fu st t (zl_nx g (zg_o st kid t) (st t)) i)) S hwc (by omega) hw e (P := 18) dn18 (by omega) (fun _ _ _ _ _ _ z => by unfold ds_W at z ⊢; omega) (fun i => by unfold ds_I; omega) (fun i hi => by rw [et] at hi; rw [fu_n hi]) (fun i hi => by rw [et] at hi; rw [fu_n hi]) (fun z => absurd z (by decide)) (fun _ => by rw [et, fu_s, el]; exact fun z => absurd (show false = true from z) (by decide)) (fun z => absurd z (by decide))
    have b1 : mu_B 17 = 0 := rfl
    have b2 : mu_B 18 = 3 := rfl
    exact fin _ _ _ _ _ _ _ _ _ _ _ mu' ⟨R1, R2, R3, G', T'⟩ S' (xr_Mu hT nb.2.1 (by omega)) (pk _)
  · have el := zl_x11 (g := g) (o := zg_o st kid t) nd he h11
    have ea4 : nI t * 4 + xla (nI (zl_at (st t))).toNatClampNeg = nI (4 * t + zl_la g (st t)) := by
      rw [ela]
      show nI t * nI 4 + nI (zl_la g (st t)) = _
      rw [pk_mul, nI_add, Nat.mul_comm]
    refine xc_ret il (by rw [e4, h11]; decide) ea4 (vp_in_nI (by omega) (by decide)) ?_
    rw [nI_clamp (by omega), rgt _ q6]
    have T' := xt_up R5 hT (l' := zl_nx g (zg_o st kid t) (st t)) (fwd' := fwd + 1) (xce' := xce) (xlc' := upd xlc (zl_at (st t)) (xlc (zl_at (st t)) + 1)) (xrg' := xrg) (Vck := zl_mx (zg_o st kid t) (xck t) (zl_ow (st t)) (zl_nk (st t) - zl_ow (st t)) + 1) (Vpc := xpc t) (Vre := zl_rg (st t) (zl_la g (st t))) (Vru := xru t + 1) (Vfo := xfo t) (Vow := xow t)
      (by rw [el]; rfl) (by rw [el]; rfl) (by rw [el, Tck]; rfl) (by rw [el, Tpc]; rfl) (by rw [el]; rfl) (by rw [el, Tru, nd]; rfl) (by rw [el, Tfo]; rfl) (by rw [el, Tow]; rfl) (by rw [el]; exact rgt) (fun _ _ _ _ => rfl) (by rw [el]; exact fun _ _ => rfl) (by rw [el]; exact fun i _ => xt_lc) (by rw [el]; exact i32_s _ _)
    simp only [us_id] at T'
    exact fine _ _ _ _ (by rw [el]; rfl) T'
end
end
section
/-! one turn of any worker -/
section
def xr_C (wc rg lim : Nat) (ai lO lA lB lL : Nat → Int32) : Prop :=
  1 ≤ wc ∧ wc ≤ 4 ∧ (1 ≤ rg ∧ rg ≤ 8) ∧ 1 ≤ lim ∧ lim ≤ 48 ∧ (∀ w, w < wc → dN (ai w) < wc) ∧ zl_pg (lO, lA, lB, fun p => (lL p).toNatClampNeg) ∧ (∀ p, p < 4 → ∃ n, n ≤ 10 ∧ lL p = nI n)
def xr_R (wc rg lim : Nat) (s gv : Int32) (ai lO lA lB lL : Nat → Int32) (p : zl_P) (ov : Int32) (μ : Nat) (ph : Nat → Int32) (u : SX) : Prop := match u with
  | (k0, k1, k2, k3, k4, k5, k6, k7, k8, k9, k10, k11, k12, k13, k14, k15, k16, k17, k18, k19, fwc, frg, flm, fst, fgv, fov, ffl, fmd, fwd, xlo, xla, xlb, xll, xce, xlc, xtop, xbot, xslo, xaim, xph, xcu, xhe, xit, xst, xsb, xpv, xtr, xpr, xar, xpa, xfk, xlk, xnk, xow, xki, xfo, xre, xbe, xck, xru, xpc, xjn, xbl, xrg, xod, xnu) => (fwc = nI wc ∧ frg = nI rg ∧ flm = nI lim ∧ fst = s ∧ fgv = gv ∧ xaim = ai ∧ xlo = lO ∧ xla = lA ∧ xlb = lB ∧ xll = lL ∧ xph = ph ∧ fov = ov) ∧ (∀ w, w < 4 → 0 ≤ (xtop w).toInt ∧ (xtop w).toInt ≤ 100) ∧ ∃ (m : Nat) (st : Nat → zl_T) (par kx : Nat → Nat) (kid : Nat → Nat → Nat) (pm : Nat → zl_P), xr_T (lO, lA, lB, fun p => (lL p).toNatClampNeg) lim p m st par kx kid pm fmd fwd xce xlc xpr xar xpa xfk xlk xnk xow xki xfo xre xbe xck xru xpc xrg ∧ ((ov = 0 ∧ ffl = 0 ∧ ∃ mu, μ = xr_M lim m st mu ∧ xs_S wc rg m par (fun t => zl_dn (st t) = true) (fun t => zl_w (lO, lA, lB, fun p => (lL p).toNatClampNeg) (st t)) mu xtop xbot xslo xph xcu xhe xit xst xsb xpv xjn xbl) ∨ (ov = 1 ∧ ffl = 0 ∧ ∀ t, t < m → zl_dn (st t) = true) ∨ (ov = 1 ∧ ffl = 1 ∧ m = lim ∧ ∃ t, t < m ∧ zl_dn (st t) = false ∧ zl_s (lO, lA, lB, fun p => (lL p).toNatClampNeg) (st t)))
theorem xs_tops {wc rg m : Nat} {par : Nat → Nat} {dn wt : Nat → Prop} {mu : Nat} {xtop xbot xslo xph xcu xhe xit xst xsb xpv xjn xbl : Nat → Int32} (h : xs_S wc rg m par dn wt mu xtop xbot xslo xph xcu xhe xit xst xsb xpv xjn xbl) (hm : m ≤ 48) : ∀ w, w < wc → 0 ≤ (xtop w).toInt ∧ (xtop w).toInt ≤ 100 := by
  intro w hw
  obtain ⟨vb, tb, hn, lo, D, J, E, M, Pm⟩ := h
  have a := D.1 w hw
  unfold ds_W tI at a
  omega
theorem xs_ph {wc rg m : Nat} {par : Nat → Nat} {dn wt : Nat → Prop} {mu : Nat} {xtop xbot xslo xph xcu xhe xit xst xsb xpv xjn xbl : Nat → Int32} (h : xs_S wc rg m par dn wt mu xtop xbot xslo xph xcu xhe xit xst xsb xpv xjn xbl) : ∀ w, w < wc → dF xph w ≤ 19 := by
  obtain ⟨vb, tb, hn, lo, D, J, E, M, Pm⟩ := h
  exact Pm
variable {post : SX → Prop} {wc rg lim : Nat} {s gv : Int32} {ai lO lA lB lL : Nat → Int32} {p : zl_P} {ov : Int32} {μ : Nat} {ph : Nat → Int32} {u : SX} {p0 : Int32}
theorem xr_step (C : xr_C wc rg lim ai lO lA lB lL) (h : xr_R wc rg lim s gv ai lO lA lB lL p ov μ ph u) (hw : p0.toNatClampNeg < wc) (h4 : vp_in p0 4)
    (K : ∀ (u' : SX) (ov' : Int32) (μ' : Nat) (ph' : Nat → Int32), xr_R wc rg lim s gv ai lO lA lB lL p ov' μ' ph' u' → μ' ≤ μ → (ov' = 0 → ov = 0 ∧ (μ' < μ ∨ (6 ≤ dF ph p0.toNatClampNeg ∧ dF ph p0.toNatClampNeg ≤ 9))) → (∀ v, v ≠ p0.toNatClampNeg → ph' v = ph v) → post u') : wpX_step post u p0 := by
  revert h
  refine xw_eta (P := fun u => xr_R wc rg lim s gv ai lO lA lB lL p ov μ ph u → wpX_step post u p0) ?_ u
  intro k0 k1 k2 k3 k4 k5 k6 k7 k8 k9 k10 k11 k12 k13 k14 k15 k16 k17 k18 k19 fwc frg flm fst fgv fov ffl fmd fwd xlo xla xlb xll xce xlc xtop xbot xslo xaim xph xcu xhe xit xst xsb xpv xtr xpr xar xpa xfk xlk xnk xow xki xfo xre xbe xck xru xpc xjn xbl xrg xod xnu
  rintro ⟨⟨rfl, rfl, rfl, rfl, rfl, rfl, rfl, rfl, rfl, rfl, rfl, rfl⟩, tops, m, st, par, kx, kid, pm, R, H⟩
  obtain ⟨c1, c2, c3, c4, c5, c6, c7, c8⟩ := C
  have hm : m ≤ 48 := by have := R.1; omega
  rcases H with ⟨ho, hf, mu, em, S⟩ | ⟨ho, hf, D⟩ | ⟨ho, hf, ml, D⟩
  · subst ho hf
    have G := R.2.2.2.1
    have T := R.2.2.2.2
    have tk : ∀ (xtop' : Nat → Int32), (∀ w, w < wc → 0 ≤ (xtop' w).toInt ∧ (xtop' w).toInt ≤ 100) → (∀ v, wc ≤ v → xtop' v = xtop v) → ∀ w, w < 4 → 0 ≤ (xtop' w).toInt ∧ (xtop' w).toInt ≤ 100 := by
      intro xtop' h1 h2 w hw4
      rcases Nat.lt_or_ge w wc with z | z
      · exact h1 w z
      · rw [h2 w z]; exact tops w hw4
    have p19 := xs_ph S _ hw
    rcases Nat.lt_or_ge (dF xph p0.toNatClampNeg) 14 with z | z
    · refine xa_sched c1 c2 c3 hm rfl rfl c6 rfl hw h4 S (by omega) ?_
      intro xtop' xbot' xslo' xph' xcu' xhe' xit' xst' xsb' xpv' xtr' xbl' mu' S' le lt pk tp
      exact K _ 0 (xr_M lim m st mu') xph' ⟨⟨rfl, rfl, rfl, rfl, rfl, rfl, rfl, rfl, rfl, rfl, rfl, rfl⟩, tk xtop' (xs_tops S' hm) tp, m, st, par, kx, kid, pm, R, Or.inl ⟨rfl, rfl, mu', rfl, S'⟩⟩ (by rw [em]; unfold xr_M; omega) (fun _ => ⟨rfl, by rw [em]; unfold xr_M; omega⟩) pk
    · by_cases q14 : dF xph p0.toNatClampNeg = 14
      · refine xa_line c2 c5 rfl c7 c8 rfl hw h4 R S q14 ?_ ?_
        · intro ml D
          exact K _ 1 μ xph ⟨⟨rfl, rfl, rfl, rfl, rfl, rfl, rfl, rfl, rfl, rfl, rfl, rfl⟩, tops, m, st, par, kx, kid, pm, R, Or.inr (Or.inr ⟨rfl, rfl, ml, D⟩)⟩ (Nat.le_refl _) (fun z => absurd z (by decide)) (fun _ _ => rfl)
        · intro m' st' par' kx' kid' pm' fmd' fwd' xce' xlc' xpr' xar' xpa' xfk' xlk' xnk' xow' xki' xfo' xre' xbe' xck' xru' xpc' xrg' xph' xit' xjn' xbl' mu' R' S' lt pk
          exact K _ 0 (xr_M lim m' st' mu') xph' ⟨⟨rfl, rfl, rfl, rfl, rfl, rfl, rfl, rfl, rfl, rfl, rfl, rfl⟩, tops, m', st', par', kx', kid', pm', R', Or.inl ⟨rfl, rfl, mu', rfl, S'⟩⟩ (by omega) (fun _ => ⟨rfl, by omega⟩) pk
      · by_cases q17 : dF xph p0.toNatClampNeg = 17
        · refine xa_comp c2 c5 c7 c8 rfl hw h4 R S q17 ?_ ?_
          · intro st' fwd' xlc' xow' xfo' xre' xck' xru' xpc' xrg' R' D
            exact K _ 1 μ xph ⟨⟨rfl, rfl, rfl, rfl, rfl, rfl, rfl, rfl, rfl, rfl, rfl, rfl⟩, tops, m, st', par, kx, kid, pm, R', Or.inr (Or.inl ⟨rfl, rfl, D⟩)⟩ (Nat.le_refl _) (fun z => absurd z (by decide)) (fun _ _ => rfl)
          · intro st' fwd' xlc' xow' xfo' xre' xck' xru' xpc' xrg' xph' mu' R' S' lt pk
            exact K _ 0 (xr_M lim m st' mu') xph' ⟨⟨rfl, rfl, rfl, rfl, rfl, rfl, rfl, rfl, rfl, rfl, rfl, rfl⟩, tops, m, st', par, kx, kid, pm, R', Or.inl ⟨rfl, rfl, mu', rfl, S'⟩⟩ (by omega) (fun _ => ⟨rfl, by omega⟩) pk
        · refine xa_join c2 hm rfl (fun c a b => (G.2.1 c a b).1) ?_ hw h4 S (by omega) ?_
          · intro t h1 h2
            have := T.2.2.2.2.2.2.2.1 t h2
            rw [this, if_neg (by omega)]
          · intro xph' xcu' xhe' xjn' xbl' mu' S' lt pk
            exact K _ 0 (xr_M lim m st mu') xph' ⟨⟨rfl, rfl, rfl, rfl, rfl, rfl, rfl, rfl, rfl, rfl, rfl, rfl⟩, tops, m, st, par, kx, kid, pm, R, Or.inl ⟨rfl, rfl, mu', rfl, S'⟩⟩ (by rw [em]; unfold xr_M; omega) (fun _ => ⟨rfl, by rw [em]; unfold xr_M; omega⟩) pk
  · subst ho
    exact xw_over (by decide) (K _ 1 μ xph ⟨⟨rfl, rfl, rfl, rfl, rfl, rfl, rfl, rfl, rfl, rfl, rfl, rfl⟩, tops, m, st, par, kx, kid, pm, R, Or.inr (Or.inl ⟨rfl, hf, D⟩)⟩ (Nat.le_refl _) (fun z => absurd z (by decide)) (fun _ _ => rfl))
  · subst ho
    exact xw_over (by decide) (K _ 1 μ xph ⟨⟨rfl, rfl, rfl, rfl, rfl, rfl, rfl, rfl, rfl, rfl, rfl, rfl⟩, tops, m, st, par, kx, kid, pm, R, Or.inr (Or.inr ⟨rfl, hf, ml, D⟩)⟩ (Nat.le_refl _) (fun z => absurd z (by decide)) (fun _ _ => rfl))
end
end
section
/-! the component's settle: rounds, then the numbering -/
section
variable {wc rg lim : Nat} {s gv : Int32} {ai lO lA lB lL : Nat → Int32} {p : zl_P} {ov : Int32} {μ : Nat} {ph : Nat → Int32} {u : SX}
theorem xr_live (h : xr_R wc rg lim s gv ai lO lA lB lL p 0 μ ph u) : ∃ w, w < wc ∧ ¬ (6 ≤ dF ph w ∧ dF ph w ≤ 9) := by
  revert h
  refine xw_eta (P := fun u => xr_R wc rg lim s gv ai lO lA lB lL p 0 μ ph u → ∃ w, w < wc ∧ ¬ (6 ≤ dF ph w ∧ dF ph w ≤ 9)) ?_ u
  intro k0 k1 k2 k3 k4 k5 k6 k7 k8 k9 k10 k11 k12 k13 k14 k15 k16 k17 k18 k19 fwc frg flm fst fgv fov ffl fmd fwd xlo xla xlb xll xce xlc xtop xbot xslo xaim xph xcu xhe xit xst xsb xpv xtr xpr xar xpa xfk xlk xnk xow xki xfo xre xbe xck xru xpc xjn xbl xrg xod xnu
  rintro ⟨⟨_, _, _, _, _, _, _, _, _, _, rfl, _⟩, tops, m, st, par, kx, kid, pm, R, H⟩
  rcases H with ⟨ho, hf, mu, em, S⟩ | ⟨ho, _⟩ | ⟨ho, _⟩
  · have G := R.2.2.2.1
    exact xs_live S G.1 (fun c a b => (G.2.1 c a b).1)
  · exact absurd ho (by decide)
  · exact absurd ho (by decide)
theorem xr_ov (h : xr_R wc rg lim s gv ai lO lA lB lL p ov μ ph u) : ov = 0 ∨ ov = 1 := by
  revert h
  refine xw_eta (P := fun u => xr_R wc rg lim s gv ai lO lA lB lL p ov μ ph u → ov = 0 ∨ ov = 1) ?_ u
  intro k0 k1 k2 k3 k4 k5 k6 k7 k8 k9 k10 k11 k12 k13 k14 k15 k16 k17 k18 k19 fwc frg flm fst fgv fov ffl fmd fwd xlo xla xlb xll xce xlc xtop xbot xslo xaim xph xcu xhe xit xst xsb xpv xtr xpr xar xpa xfk xlk xnk xow xki xfo xre xbe xck xru xpc xjn xbl xrg xod xnu
  rintro ⟨_, tops, m, st, par, kx, kid, pm, R, H⟩
  rcases H with ⟨ho, _⟩ | ⟨ho, _⟩ | ⟨ho, _⟩
  · exact Or.inl ho
  · exact Or.inr ho
  · exact Or.inr ho
theorem mu_Bb (p : Nat) : mu_B p ≤ 10 := by
  rcases Nat.lt_or_ge p 22 with z | z
  · have : ∀ p, p < 22 → mu_B p ≤ 10 := by decide
    exact this p z
  · unfold mu_B
    rw [if_neg (by omega), if_neg (by omega), if_neg (by omega), if_neg (by omega), if_neg (by omega), if_neg (by omega), if_neg (by omega), if_neg (by omega), if_neg (by omega), if_neg (by omega), if_neg (by omega), if_neg (by omega), if_pos (by omega)]
    omega
theorem mu_Mb {m : Nat} {ph lo : Nat → Nat} : mu_M m ph lo ≤ 40 + m * 16 := by
  unfold mu_M
  have a := sn_b (f := fun w => mu_B (ph w)) (c := 10) (n := 4) (fun i _ => by
    exact mu_Bb (ph i))
  have b := sn_b (f := fun t => mu_L (lo t)) (c := 16) (n := m) (fun i _ => by
    show mu_L (lo i) ≤ 16
    unfold mu_L; split <;> omega)
  omega
theorem xr_bd (hlim : lim ≤ 48) (h : xr_R wc rg lim s gv ai lO lA lB lL p 0 μ ph u) : μ < 20000 := by
  revert h
  refine xw_eta (P := fun u => xr_R wc rg lim s gv ai lO lA lB lL p 0 μ ph u → μ < 20000) ?_ u
  intro k0 k1 k2 k3 k4 k5 k6 k7 k8 k9 k10 k11 k12 k13 k14 k15 k16 k17 k18 k19 fwc frg flm fst fgv fov ffl fmd fwd xlo xla xlb xll xce xlc xtop xbot xslo xaim xph xcu xhe xit xst xsb xpv xtr xpr xar xpa xfk xlk xnk xow xki xfo xre xbe xck xru xpc xjn xbl xrg xod xnu
  rintro ⟨_, tops, m, st, par, kx, kid, pm, R, H⟩
  rcases H with ⟨ho, hf, mu, em, S⟩ | ⟨ho, _⟩ | ⟨ho, _⟩
  · have ml := R.1
    obtain ⟨vb, tb, hn, lo, D, J, E, M, Pm⟩ := S
    have a := mu_Mb (m := m) (ph := dF xph) (lo := lo)
    have b := sn_b (f := fun t => zl_rem (st t)) (c := 12) (n := m) (fun i _ => by
      show zl_rem (st i) ≤ 12
      unfold zl_rem; split <;> omega)
    rw [em]; unfold xr_M
    have c : (lim - m) * 208 ≤ 48 * 208 := Nat.mul_le_mul_right _ (by omega)
    omega
  · exact absurd ho (by decide)
  · exact absurd ho (by decide)
theorem tn_in (y : Int32) : vp_in (y &&& 3) 4 := by
  have h : (y &&& 3).toBitVec.toNat < 4 := by
    rw [Int32.toBitVec_and, BitVec.toNat_and]
    exact Nat.lt_of_le_of_lt Nat.and_le_right (by decide)
  have e : (y &&& 3).toInt = (y &&& 3).toBitVec.toInt := rfl
  rw [vp_in_iff, e, BitVec.toInt_eq_toNat_of_lt (by omega)]
  omega
variable {post : Int32 → SX → Prop}
/-- one round of all workers -/
theorem xr_in (C : xr_C wc rg lim ai lO lA lB lL) {M : Nat} {x1 : Int32} {J13 : Int32 → Int32 → Int32 → Int32 → Int32 → Int32 → Int32 → Int32 → Int32 → Int32 → Int32 → Int32 → Int32 → Int32 → Int32 → Int32 → Int32 → Int32 → Int32 → Int32 → Int32 → Int32 → Int32 → Int32 → Int32 → Int32 → Int32 → Int32 → Int32 → Int32 → (Nat → Int32) → (Nat → Int32) → (Nat → Int32) → (Nat → Int32) → (Nat → Int32) → (Nat → Int32) → (Nat → Int32) → (Nat → Int32) → (Nat → Int32) → (Nat → Int32) → (Nat → Int32) → (Nat → Int32) → (Nat → Int32) → (Nat → Int32) → (Nat → Int32) → (Nat → Int32) → (Nat → Int32) → (Nat → Int32) → (Nat → Int32) → (Nat → Int32) → (Nat → Int32) → (Nat → Int32) → (Nat → Int32) → (Nat → Int32) → (Nat → Int32) → (Nat → Int32) → (Nat → Int32) → (Nat → Int32) → (Nat → Int32) → (Nat → Int32) → (Nat → Int32) → (Nat → Int32) → (Nat → Int32) → (Nat → Int32) → (Nat → Int32) → (Nat → Int32) → (Nat → Int32) → Prop} (Jc : ∀ (u' : SX) (ov' : Int32) (μ' : Nat) (ph' : Nat → Int32), xr_R wc rg lim s gv ai lO lA lB lL p ov' μ' ph' u' → (ov' = 0 → μ' < M) → (match u' with | (k0, k1, k2, k3, k4, k5, k6, k7, k8, k9, k10, k11, k12, k13, k14, k15, k16, k17, k18, k19, fwc, frg, flm, fst, fgv, fov, ffl, fmd, fwd, xlo, xla, xlb, xll, xce, xlc, xtop, xbot, xslo, xaim, xph, xcu, xhe, xit, xst, xsb, xpv, xtr, xpr, xar, xpa, xfk, xlk, xnk, xow, xki, xfo, xre, xbe, xck, xru, xpc, xjn, xbl, xrg, xod, xnu) => J13 (x1 + 1) k0 k1 k2 k3 k4 k5 k6 k7 k8 k9 k10 k11 k12 k13 k14 k15 k16 k17 k18 k19 fwc frg flm fst fgv fov ffl fmd fwd xlo xla xlb xll xce xlc xtop xbot xslo xaim xph xcu xhe xit xst xsb xpv xtr xpr xar xpa xfk xlk xnk xow xki xfo xre xbe xck xru xpc xjn xbl xrg xod xnu)) : ∀ (d q : Nat) (u : SX) (ov : Int32) (μ : Nat) (ph : Nat → Int32), q + d = wc → xr_R wc rg lim s gv ai lO lA lB lL p ov μ ph u → μ ≤ M → (ov = 0 → μ < M ∨ ∃ w, q ≤ w ∧ w < wc ∧ ¬ (6 ≤ dF ph w ∧ dF ph w ≤ 9)) → (match u with | (k0, k1, k2, k3, k4, k5, k6, k7, k8, k9, k10, k11, k12, k13, k14, k15, k16, k17, k18, k19, fwc, frg, flm, fst, fgv, fov, ffl, fmd, fwd, xlo, xla, xlb, xll, xce, xlc, xtop, xbot, xslo, xaim, xph, xcu, xhe, xit, xst, xsb, xpv, xtr, xpr, xar, xpa, xfk, xlk, xnk, xow, xki, xfo, xre, xbe, xck, xru, xpc, xjn, xbl, xrg, xod, xnu) => wX_settle_28 post J13 x1 (d + 1) (nI q) k0 k1 k2 k3 k4 k5 k6 k7 k8 k9 k10 k11 k12 k13 k14 k15 k16 k17 k18 k19 fwc frg flm fst fgv fov ffl fmd fwd xlo xla xlb xll xce xlc xtop xbot xslo xaim xph xcu xhe xit xst xsb xpv xtr xpr xar xpa xfk xlk xnk xow xki xfo xre xbe xck xru xpc xjn xbl xrg xod xnu) := by
  intro d
  induction d with
  | zero =>
    intro q u ov μ ph hq h hM hL
    have k := Jc u ov μ ph h (fun z => by
      rcases hL z with y | ⟨w, y1, y2, _⟩
      · exact y
      · omega)
    revert h k
    refine xw_eta (P := fun u => xr_R wc rg lim s gv ai lO lA lB lL p ov μ ph u → (match u with | (k0, k1, k2, k3, k4, k5, k6, k7, k8, k9, k10, k11, k12, k13, k14, k15, k16, k17, k18, k19, fwc, frg, flm, fst, fgv, fov, ffl, fmd, fwd, xlo, xla, xlb, xll, xce, xlc, xtop, xbot, xslo, xaim, xph, xcu, xhe, xit, xst, xsb, xpv, xtr, xpr, xar, xpa, xfk, xlk, xnk, xow, xki, xfo, xre, xbe, xck, xru, xpc, xjn, xbl, xrg, xod, xnu) => J13 (x1 + 1) k0 k1 k2 k3 k4 k5 k6 k7 k8 k9 k10 k11 k12 k13 k14 k15 k16 k17 k18 k19 fwc frg flm fst fgv fov ffl fmd fwd xlo xla xlb xll xce xlc xtop xbot xslo xaim xph xcu xhe xit xst xsb xpv xtr xpr xar xpa xfk xlk xnk xow xki xfo xre xbe xck xru xpc xjn xbl xrg xod xnu) → (match u with | (k0, k1, k2, k3, k4, k5, k6, k7, k8, k9, k10, k11, k12, k13, k14, k15, k16, k17, k18, k19, fwc, frg, flm, fst, fgv, fov, ffl, fmd, fwd, xlo, xla, xlb, xll, xce, xlc, xtop, xbot, xslo, xaim, xph, xcu, xhe, xit, xst, xsb, xpv, xtr, xpr, xar, xpa, xfk, xlk, xnk, xow, xki, xfo, xre, xbe, xck, xru, xpc, xjn, xbl, xrg, xod, xnu) => wX_settle_28 post J13 x1 (0 + 1) (nI q) k0 k1 k2 k3 k4 k5 k6 k7 k8 k9 k10 k11 k12 k13 k14 k15 k16 k17 k18 k19 fwc frg flm fst fgv fov ffl fmd fwd xlo xla xlb xll xce xlc xtop xbot xslo xaim xph xcu xhe xit xst xsb xpv xtr xpr xar xpa xfk xlk xnk xow xki xfo xre xbe xck xru xpc xjn xbl xrg xod xnu)) ?_ u
    intro k0 k1 k2 k3 k4 k5 k6 k7 k8 k9 k10 k11 k12 k13 k14 k15 k16 k17 k18 k19 fwc frg flm fst fgv fov ffl fmd fwd xlo xla xlb xll xce xlc xtop xbot xslo xaim xph xcu xhe xit xst xsb xpv xtr xpr xar xpa xfk xlk xnk xow xki xfo xre xbe xck xru xpc xjn xbl xrg xod xnu h k
    have e : fwc = nI wc := h.1.1
    refine br_t ?_ (nm_e k)
    rw [e]; exact nI_le (by omega) (by have := C.2.1; omega)
  | succ d ih =>
    intro q u ov μ ph hq h hM hL
    have c2 := C.2.1
    have cq : (nI q).toNatClampNeg = q := nI_clamp (by omega)
    have st : ∀ post' : SX → Prop, (∀ (u' : SX), (match u' with | (k0, k1, k2, k3, k4, k5, k6, k7, k8, k9, k10, k11, k12, k13, k14, k15, k16, k17, k18, k19, fwc, frg, flm, fst, fgv, fov, ffl, fmd, fwd, xlo, xla, xlb, xll, xce, xlc, xtop, xbot, xslo, xaim, xph, xcu, xhe, xit, xst, xsb, xpv, xtr, xpr, xar, xpa, xfk, xlk, xnk, xow, xki, xfo, xre, xbe, xck, xru, xpc, xjn, xbl, xrg, xod, xnu) => wX_settle_28 post J13 x1 (d + 1) (nI (q + 1)) k0 k1 k2 k3 k4 k5 k6 k7 k8 k9 k10 k11 k12 k13 k14 k15 k16 k17 k18 k19 fwc frg flm fst fgv fov ffl fmd fwd xlo xla xlb xll xce xlc xtop xbot xslo xaim xph xcu xhe xit xst xsb xpv xtr xpr xar xpa xfk xlk xnk xow xki xfo xre xbe xck xru xpc xjn xbl xrg xod xnu) → post' u') → wpX_step post' u (nI q) := by
      intro post' hp'
      refine xr_step C h (by omega) (vp_in_nI (by omega) (by decide)) ?_
      intro u' ov' μ' ph' h' le lt pk
      refine hp' u' (ih (q + 1) u' ov' μ' ph' (by omega) h' (by omega) ?_)
      intro z
      rw [cq] at lt pk
      obtain ⟨o0, y⟩ := lt z
      rcases y with y | y
      · exact Or.inl (by omega)
      · rcases hL o0 with y2 | ⟨w, y1, y2, y3⟩
        · exact Or.inl (by omega)
        · have wq : w ≠ q := by intro e; subst e; exact y3 y
          refine Or.inr ⟨w, by omega, y2, ?_⟩
          unfold dF at y3 ⊢
          rw [pk w wq]; exact y3
    revert h st
    refine xw_eta (P := fun u => xr_R wc rg lim s gv ai lO lA lB lL p ov μ ph u → (∀ post' : SX → Prop, (∀ (u' : SX), (match u' with | (k0, k1, k2, k3, k4, k5, k6, k7, k8, k9, k10, k11, k12, k13, k14, k15, k16, k17, k18, k19, fwc, frg, flm, fst, fgv, fov, ffl, fmd, fwd, xlo, xla, xlb, xll, xce, xlc, xtop, xbot, xslo, xaim, xph, xcu, xhe, xit, xst, xsb, xpv, xtr, xpr, xar, xpa, xfk, xlk, xnk, xow, xki, xfo, xre, xbe, xck, xru, xpc, xjn, xbl, xrg, xod, xnu) => wX_settle_28 post J13 x1 (d + 1) (nI (q + 1)) k0 k1 k2 k3 k4 k5 k6 k7 k8 k9 k10 k11 k12 k13 k14 k15 k16 k17 k18 k19 fwc frg flm fst fgv fov ffl fmd fwd xlo xla xlb xll xce xlc xtop xbot xslo xaim xph xcu xhe xit xst xsb xpv xtr xpr xar xpa xfk xlk xnk xow xki xfo xre xbe xck xru xpc xjn xbl xrg xod xnu) → post' u') → wpX_step post' u (nI q)) → (match u with | (k0, k1, k2, k3, k4, k5, k6, k7, k8, k9, k10, k11, k12, k13, k14, k15, k16, k17, k18, k19, fwc, frg, flm, fst, fgv, fov, ffl, fmd, fwd, xlo, xla, xlb, xll, xce, xlc, xtop, xbot, xslo, xaim, xph, xcu, xhe, xit, xst, xsb, xpv, xtr, xpr, xar, xpa, xfk, xlk, xnk, xow, xki, xfo, xre, xbe, xck, xru, xpc, xjn, xbl, xrg, xod, xnu) => wX_settle_28 post J13 x1 (d + 1 + 1) (nI q) k0 k1 k2 k3 k4 k5 k6 k7 k8 k9 k10 k11 k12 k13 k14 k15 k16 k17 k18 k19 fwc frg flm fst fgv fov ffl fmd fwd xlo xla xlb xll xce xlc xtop xbot xslo xaim xph xcu xhe xit xst xsb xpv xtr xpr xar xpa xfk xlk xnk xow xki xfo xre xbe xck xru xpc xjn xbl xrg xod xnu)) ?_ u
    intro k0 k1 k2 k3 k4 k5 k6 k7 k8 k9 k10 k11 k12 k13 k14 k15 k16 k17 k18 k19 fwc frg flm fst fgv fov ffl fmd fwd xlo xla xlb xll xce xlc xtop xbot xslo xaim xph xcu xhe xit xst xsb xpv xtr xpr xar xpa xfk xlk xnk xow xki xfo xre xbe xck xru xpc xjn xbl xrg xod xnu h st
    have e : fwc = nI wc := h.1.1
    refine br_f ?_ (st _ ?_)
    · rw [e]; exact nI_ge (by omega) (by omega)
    · refine xw_eta ?_
      intro k0 k1 k2 k3 k4 k5 k6 k7 k8 k9 k10 k11 k12 k13 k14 k15 k16 k17 k18 k19 fwc frg flm fst fgv fov ffl fmd fwd xlo xla xlb xll xce xlc xtop xbot xslo xaim xph xcu xhe xit xst xsb xpv xtr xpr xar xpa xfk xlk xnk xow xki xfo xre xbe xck xru xpc xjn xbl xrg xod xnu k
      exact nm_r (nI_1 q) k
theorem xr_out (C : xr_C wc rg lim ai lO lA lB lL) (fin : ∀ (u' : SX) (μ' : Nat) (ph' : Nat → Int32), xr_R wc rg lim s gv ai lO lA lB lL p 1 μ' ph' u' → (match u' with | (k0, k1, k2, k3, k4, k5, k6, k7, k8, k9, k10, k11, k12, k13, k14, k15, k16, k17, k18, k19, fwc, frg, flm, fst, fgv, fov, ffl, fmd, fwd, xlo, xla, xlb, xll, xce, xlc, xtop, xbot, xslo, xaim, xph, xcu, xhe, xit, xst, xsb, xpv, xtr, xpr, xar, xpa, xfk, xlk, xnk, xow, xki, xfo, xre, xbe, xck, xru, xpc, xjn, xbl, xrg, xod, xnu) => wX_settle_53 post k0 k1 k2 k3 k4 k5 k6 k7 k8 k9 k10 k11 k12 k13 k14 k15 k16 k17 k18 k19 fwc frg flm fst fgv fov ffl fmd fwd xlo xla xlb xll xce xlc xtop xbot xslo xaim xph xcu xhe xit xst xsb xpv xtr xpr xar xpa xfk xlk xnk xow xki xfo xre xbe xck xru xpc xjn xbl xrg xod xnu)) : ∀ (M i : Nat) (u : SX) (ov : Int32) (μ : Nat) (ph : Nat → Int32), i + M ≤ 32768 → xr_R wc rg lim s gv ai lO lA lB lL p ov μ ph u → (ov = 0 → μ < M) → (match u with | (k0, k1, k2, k3, k4, k5, k6, k7, k8, k9, k10, k11, k12, k13, k14, k15, k16, k17, k18, k19, fwc, frg, flm, fst, fgv, fov, ffl, fmd, fwd, xlo, xla, xlb, xll, xce, xlc, xtop, xbot, xslo, xaim, xph, xcu, xhe, xit, xst, xsb, xpv, xtr, xpr, xar, xpa, xfk, xlk, xnk, xow, xki, xfo, xre, xbe, xck, xru, xpc, xjn, xbl, xrg, xod, xnu) => wX_settle_13 post (M + 1) (nI i) k0 k1 k2 k3 k4 k5 k6 k7 k8 k9 k10 k11 k12 k13 k14 k15 k16 k17 k18 k19 fwc frg flm fst fgv fov ffl fmd fwd xlo xla xlb xll xce xlc xtop xbot xslo xaim xph xcu xhe xit xst xsb xpv xtr xpr xar xpa xfk xlk xnk xow xki xfo xre xbe xck xru xpc xjn xbl xrg xod xnu) := by
  intro M
  induction M with
  | zero =>
    intro i u ov μ ph hi h hM
    rcases xr_ov h with o0 | o0
    · exact absurd (hM o0) (Nat.not_lt_zero _)
    · subst o0
      have k := fin u μ ph h
      revert h k
      refine xw_eta (P := fun u => xr_R wc rg lim s gv ai lO lA lB lL p 1 μ ph u → (match u with | (k0, k1, k2, k3, k4, k5, k6, k7, k8, k9, k10, k11, k12, k13, k14, k15, k16, k17, k18, k19, fwc, frg, flm, fst, fgv, fov, ffl, fmd, fwd, xlo, xla, xlb, xll, xce, xlc, xtop, xbot, xslo, xaim, xph, xcu, xhe, xit, xst, xsb, xpv, xtr, xpr, xar, xpa, xfk, xlk, xnk, xow, xki, xfo, xre, xbe, xck, xru, xpc, xjn, xbl, xrg, xod, xnu) => wX_settle_53 post k0 k1 k2 k3 k4 k5 k6 k7 k8 k9 k10 k11 k12 k13 k14 k15 k16 k17 k18 k19 fwc frg flm fst fgv fov ffl fmd fwd xlo xla xlb xll xce xlc xtop xbot xslo xaim xph xcu xhe xit xst xsb xpv xtr xpr xar xpa xfk xlk xnk xow xki xfo xre xbe xck xru xpc xjn xbl xrg xod xnu) → (match u with | (k0, k1, k2, k3, k4, k5, k6, k7, k8, k9, k10, k11, k12, k13, k14, k15, k16, k17, k18, k19, fwc, frg, flm, fst, fgv, fov, ffl, fmd, fwd, xlo, xla, xlb, xll, xce, xlc, xtop, xbot, xslo, xaim, xph, xcu, xhe, xit, xst, xsb, xpv, xtr, xpr, xar, xpa, xfk, xlk, xnk, xow, xki, xfo, xre, xbe, xck, xru, xpc, xjn, xbl, xrg, xod, xnu) => wX_settle_13 post (0 + 1) (nI i) k0 k1 k2 k3 k4 k5 k6 k7 k8 k9 k10 k11 k12 k13 k14 k15 k16 k17 k18 k19 fwc frg flm fst fgv fov ffl fmd fwd xlo xla xlb xll xce xlc xtop xbot xslo xaim xph xcu xhe xit xst xsb xpv xtr xpr xar xpa xfk xlk xnk xow xki xfo xre xbe xck xru xpc xjn xbl xrg xod xnu)) ?_ u
      intro k0 k1 k2 k3 k4 k5 k6 k7 k8 k9 k10 k11 k12 k13 k14 k15 k16 k17 k18 k19 fwc frg flm fst fgv fov ffl fmd fwd xlo xla xlb xll xce xlc xtop xbot xslo xaim xph xcu xhe xit xst xsb xpv xtr xpr xar xpa xfk xlk xnk xow xki xfo xre xbe xck xru xpc xjn xbl xrg xod xnu h k
      have e : fov = 1 := h.1.2.2.2.2.2.2.2.2.2.2.2
      exact br_c (fun _ => k) (fun _ => br_f (by rw [e]; decide) k)
  | succ M ih =>
    intro i u ov μ ph hi h hM
    rcases xr_ov h with o0 | o0
    · subst o0
      obtain ⟨w, w1, w2⟩ := xr_live h
      have k := xr_in (post := post) C (M := μ) (x1 := nI i) (J13 := wX_settle_13 post (M + 1)) (s := s) (gv := gv) (p := p) (fun u' ov' μ' ph' h' lt => by
        have := ih (i + 1) u' ov' μ' ph' (by omega) h' (fun z => by have := lt z; have := hM rfl; omega)
        rw [nI_1]; exact this) wc 0 u 0 μ ph (by omega) h (Nat.le_refl _) (fun _ => Or.inr ⟨w, by omega, w1, w2⟩)
      revert h k
      refine xw_eta (P := fun u => xr_R wc rg lim s gv ai lO lA lB lL p 0 μ ph u → (match u with | (k0, k1, k2, k3, k4, k5, k6, k7, k8, k9, k10, k11, k12, k13, k14, k15, k16, k17, k18, k19, fwc, frg, flm, fst, fgv, fov, ffl, fmd, fwd, xlo, xla, xlb, xll, xce, xlc, xtop, xbot, xslo, xaim, xph, xcu, xhe, xit, xst, xsb, xpv, xtr, xpr, xar, xpa, xfk, xlk, xnk, xow, xki, xfo, xre, xbe, xck, xru, xpc, xjn, xbl, xrg, xod, xnu) => wX_settle_28 post (wX_settle_13 post (M + 1)) (nI i) (wc + 1) (nI 0) k0 k1 k2 k3 k4 k5 k6 k7 k8 k9 k10 k11 k12 k13 k14 k15 k16 k17 k18 k19 fwc frg flm fst fgv fov ffl fmd fwd xlo xla xlb xll xce xlc xtop xbot xslo xaim xph xcu xhe xit xst xsb xpv xtr xpr xar xpa xfk xlk xnk xow xki xfo xre xbe xck xru xpc xjn xbl xrg xod xnu) → (match u with | (k0, k1, k2, k3, k4, k5, k6, k7, k8, k9, k10, k11, k12, k13, k14, k15, k16, k17, k18, k19, fwc, frg, flm, fst, fgv, fov, ffl, fmd, fwd, xlo, xla, xlb, xll, xce, xlc, xtop, xbot, xslo, xaim, xph, xcu, xhe, xit, xst, xsb, xpv, xtr, xpr, xar, xpa, xfk, xlk, xnk, xow, xki, xfo, xre, xbe, xck, xru, xpc, xjn, xbl, xrg, xod, xnu) => wX_settle_13 post (M + 1 + 1) (nI i) k0 k1 k2 k3 k4 k5 k6 k7 k8 k9 k10 k11 k12 k13 k14 k15 k16 k17 k18 k19 fwc frg flm fst fgv fov ffl fmd fwd xlo xla xlb xll xce xlc xtop xbot xslo xaim xph xcu xhe xit xst xsb xpv xtr xpr xar xpa xfk xlk xnk xow xki xfo xre xbe xck xru xpc xjn xbl xrg xod xnu)) ?_ u
      intro k0 k1 k2 k3 k4 k5 k6 k7 k8 k9 k10 k11 k12 k13 k14 k15 k16 k17 k18 k19 fwc frg flm fst fgv fov ffl fmd fwd xlo xla xlb xll xce xlc xtop xbot xslo xaim xph xcu xhe xit xst xsb xpv xtr xpr xar xpa xfk xlk xnk xow xki xfo xre xbe xck xru xpc xjn xbl xrg xod xnu h k
      have e : fov = 0 := h.1.2.2.2.2.2.2.2.2.2.2.2
      exact br_f (nI_ge (b := 32768) (by omega) (by decide)) (br_t e ⟨wc + 1, k⟩)
    · subst o0
      have k := fin u μ ph h
      revert h k
      refine xw_eta (P := fun u => xr_R wc rg lim s gv ai lO lA lB lL p 1 μ ph u → (match u with | (k0, k1, k2, k3, k4, k5, k6, k7, k8, k9, k10, k11, k12, k13, k14, k15, k16, k17, k18, k19, fwc, frg, flm, fst, fgv, fov, ffl, fmd, fwd, xlo, xla, xlb, xll, xce, xlc, xtop, xbot, xslo, xaim, xph, xcu, xhe, xit, xst, xsb, xpv, xtr, xpr, xar, xpa, xfk, xlk, xnk, xow, xki, xfo, xre, xbe, xck, xru, xpc, xjn, xbl, xrg, xod, xnu) => wX_settle_53 post k0 k1 k2 k3 k4 k5 k6 k7 k8 k9 k10 k11 k12 k13 k14 k15 k16 k17 k18 k19 fwc frg flm fst fgv fov ffl fmd fwd xlo xla xlb xll xce xlc xtop xbot xslo xaim xph xcu xhe xit xst xsb xpv xtr xpr xar xpa xfk xlk xnk xow xki xfo xre xbe xck xru xpc xjn xbl xrg xod xnu) → (match u with | (k0, k1, k2, k3, k4, k5, k6, k7, k8, k9, k10, k11, k12, k13, k14, k15, k16, k17, k18, k19, fwc, frg, flm, fst, fgv, fov, ffl, fmd, fwd, xlo, xla, xlb, xll, xce, xlc, xtop, xbot, xslo, xaim, xph, xcu, xhe, xit, xst, xsb, xpv, xtr, xpr, xar, xpa, xfk, xlk, xnk, xow, xki, xfo, xre, xbe, xck, xru, xpc, xjn, xbl, xrg, xod, xnu) => wX_settle_13 post (M + 1 + 1) (nI i) k0 k1 k2 k3 k4 k5 k6 k7 k8 k9 k10 k11 k12 k13 k14 k15 k16 k17 k18 k19 fwc frg flm fst fgv fov ffl fmd fwd xlo xla xlb xll xce xlc xtop xbot xslo xaim xph xcu xhe xit xst xsb xpv xtr xpr xar xpa xfk xlk xnk xow xki xfo xre xbe xck xru xpc xjn xbl xrg xod xnu)) ?_ u
      intro k0 k1 k2 k3 k4 k5 k6 k7 k8 k9 k10 k11 k12 k13 k14 k15 k16 k17 k18 k19 fwc frg flm fst fgv fov ffl fmd fwd xlo xla xlb xll xce xlc xtop xbot xslo xaim xph xcu xhe xit xst xsb xpv xtr xpr xar xpa xfk xlk xnk xow xki xfo xre xbe xck xru xpc xjn xbl xrg xod xnu h k
      have e : fov = 1 := h.1.2.2.2.2.2.2.2.2.2.2.2
      exact br_c (fun _ => k) (fun _ => br_f (by rw [e]; decide) k)
/-- the turns of one call -/
def tn_c (wc : Nat) (x : Int32) : Nat → Nat → Int32 → Int32
  | 0, _, c => c
  | d + 1, i, c => tn_c wc x d (i + 1) (if nI wc ≤ ((x.toUInt32 >>> ((2 * nI i).toUInt32 &&& Int32.toUInt32 31)).toInt32) &&& 3 then c else c + 1)
theorem xr_turns (C : xr_C wc rg lim ai lO lA lB lL) {x : Int32} : ∀ (d i : Nat) (c : Int32) (u : SX) (ov : Int32) (μ : Nat) (ph : Nat → Int32), i + d = 16 → xr_R wc rg lim s gv ai lO lA lB lL p ov μ ph u → (∀ (u' : SX) (ov' : Int32) (μ' : Nat) (ph' : Nat → Int32), xr_R wc rg lim s (gv + tn_c wc x d i c) ai lO lA lB lL p ov' μ' ph' u' → post (tn_c wc x d i c) u') → (match u with | (k0, k1, k2, k3, k4, k5, k6, k7, k8, k9, k10, k11, k12, k13, k14, k15, k16, k17, k18, k19, fwc, frg, flm, fst, fgv, fov, ffl, fmd, fwd, xlo, xla, xlb, xll, xce, xlc, xtop, xbot, xslo, xaim, xph, xcu, xhe, xit, xst, xsb, xpv, xtr, xpr, xar, xpa, xfk, xlk, xnk, xow, xki, xfo, xre, xbe, xck, xru, xpc, xjn, xbl, xrg, xod, xnu) => wX_turns_15 post x (d + 1) c (nI i) k0 k1 k2 k3 k4 k5 k6 k7 k8 k9 k10 k11 k12 k13 k14 k15 k16 k17 k18 k19 fwc frg flm fst fgv fov ffl fmd fwd xlo xla xlb xll xce xlc xtop xbot xslo xaim xph xcu xhe xit xst xsb xpv xtr xpr xar xpa xfk xlk xnk xow xki xfo xre xbe xck xru xpc xjn xbl xrg xod xnu) := by
  intro d
  induction d with
  | zero =>
    intro i c u ov μ ph hi h K
    revert h
    refine xw_eta (P := fun u => xr_R wc rg lim s gv ai lO lA lB lL p ov μ ph u → (match u with | (k0, k1, k2, k3, k4, k5, k6, k7, k8, k9, k10, k11, k12, k13, k14, k15, k16, k17, k18, k19, fwc, frg, flm, fst, fgv, fov, ffl, fmd, fwd, xlo, xla, xlb, xll, xce, xlc, xtop, xbot, xslo, xaim, xph, xcu, xhe, xit, xst, xsb, xpv, xtr, xpr, xar, xpa, xfk, xlk, xnk, xow, xki, xfo, xre, xbe, xck, xru, xpc, xjn, xbl, xrg, xod, xnu) => wX_turns_15 post x (0 + 1) c (nI i) k0 k1 k2 k3 k4 k5 k6 k7 k8 k9 k10 k11 k12 k13 k14 k15 k16 k17 k18 k19 fwc frg flm fst fgv fov ffl fmd fwd xlo xla xlb xll xce xlc xtop xbot xslo xaim xph xcu xhe xit xst xsb xpv xtr xpr xar xpa xfk xlk xnk xow xki xfo xre xbe xck xru xpc xjn xbl xrg xod xnu)) ?_ u
    intro k0 k1 k2 k3 k4 k5 k6 k7 k8 k9 k10 k11 k12 k13 k14 k15 k16 k17 k18 k19 fwc frg flm fst fgv fov ffl fmd fwd xlo xla xlb xll xce xlc xtop xbot xslo xaim xph xcu xhe xit xst xsb xpv xtr xpr xar xpa xfk xlk xnk xow xki xfo xre xbe xck xru xpc xjn xbl xrg xod xnu h
    refine br_t (nI_le (a := 16) (by omega) (by omega)) (nm_e (K _ ov μ ph ?_))
    obtain ⟨⟨a1, a2, a3, a4, a5, a6⟩, h2⟩ := h
    exact ⟨⟨a1, a2, a3, a4, by rw [a5]; rfl, a6⟩, h2⟩
  | succ d ih =>
    intro i c u ov μ ph hi h K
    have c2 := C.2.1
    have A : ¬ (16 : Int32) ≤ nI i := nI_ge (b := 16) (by omega) (by decide)
    by_cases hc : nI wc ≤ ((x.toUInt32 >>> ((2 * nI i).toUInt32 &&& Int32.toUInt32 31)).toInt32) &&& 3
    · have et : tn_c wc x (d + 1) i c = tn_c wc x d (i + 1) c := by
        show tn_c wc x d (i + 1) (if _ then c else c + 1) = _
        rw [if_pos hc]
      rw [et] at K
      have k := ih (i + 1) c u ov μ ph (by omega) h K
      revert h k
      refine xw_eta (P := fun u => xr_R wc rg lim s gv ai lO lA lB lL p ov μ ph u → (match u with | (k0, k1, k2, k3, k4, k5, k6, k7, k8, k9, k10, k11, k12, k13, k14, k15, k16, k17, k18, k19, fwc, frg, flm, fst, fgv, fov, ffl, fmd, fwd, xlo, xla, xlb, xll, xce, xlc, xtop, xbot, xslo, xaim, xph, xcu, xhe, xit, xst, xsb, xpv, xtr, xpr, xar, xpa, xfk, xlk, xnk, xow, xki, xfo, xre, xbe, xck, xru, xpc, xjn, xbl, xrg, xod, xnu) => wX_turns_15 post x (d + 1) c (nI (i + 1)) k0 k1 k2 k3 k4 k5 k6 k7 k8 k9 k10 k11 k12 k13 k14 k15 k16 k17 k18 k19 fwc frg flm fst fgv fov ffl fmd fwd xlo xla xlb xll xce xlc xtop xbot xslo xaim xph xcu xhe xit xst xsb xpv xtr xpr xar xpa xfk xlk xnk xow xki xfo xre xbe xck xru xpc xjn xbl xrg xod xnu) → (match u with | (k0, k1, k2, k3, k4, k5, k6, k7, k8, k9, k10, k11, k12, k13, k14, k15, k16, k17, k18, k19, fwc, frg, flm, fst, fgv, fov, ffl, fmd, fwd, xlo, xla, xlb, xll, xce, xlc, xtop, xbot, xslo, xaim, xph, xcu, xhe, xit, xst, xsb, xpv, xtr, xpr, xar, xpa, xfk, xlk, xnk, xow, xki, xfo, xre, xbe, xck, xru, xpc, xjn, xbl, xrg, xod, xnu) => wX_turns_15 post x (d + 1 + 1) c (nI i) k0 k1 k2 k3 k4 k5 k6 k7 k8 k9 k10 k11 k12 k13 k14 k15 k16 k17 k18 k19 fwc frg flm fst fgv fov ffl fmd fwd xlo xla xlb xll xce xlc xtop xbot xslo xaim xph xcu xhe xit xst xsb xpv xtr xpr xar xpa xfk xlk xnk xow xki xfo xre xbe xck xru xpc xjn xbl xrg xod xnu)) ?_ u
      intro k0 k1 k2 k3 k4 k5 k6 k7 k8 k9 k10 k11 k12 k13 k14 k15 k16 k17 k18 k19 fwc frg flm fst fgv fov ffl fmd fwd xlo xla xlb xll xce xlc xtop xbot xslo xaim xph xcu xhe xit xst xsb xpv xtr xpr xar xpa xfk xlk xnk xow xki xfo xre xbe xck xru xpc xjn xbl xrg xod xnu h k
      have e : fwc = nI wc := h.1.1
      exact br_f A (nm_e (br_t (by rw [e]; exact hc) (nm_r (nI_1 i) k)))
    · have et : tn_c wc x (d + 1) i c = tn_c wc x d (i + 1) (c + 1) := by
        show tn_c wc x d (i + 1) (if _ then c else c + 1) = _
        rw [if_neg hc]
      rw [et] at K
      obtain ⟨j, hj, ej⟩ := vp_in_of (tn_in ((x.toUInt32 >>> ((2 * nI i).toUInt32 &&& Int32.toUInt32 31)).toInt32)) (by decide)
      have hj2 : j < wc := by
        rcases Nat.lt_or_ge j wc with z | z
        · exact z
        · refine absurd ?_ hc
          rw [ej]; exact nI_le z (by omega)
      have cj : (nI j).toNatClampNeg = j := nI_clamp (by omega)
      have st : ∀ post' : SX → Prop, (∀ (u' : SX), (match u' with | (k0, k1, k2, k3, k4, k5, k6, k7, k8, k9, k10, k11, k12, k13, k14, k15, k16, k17, k18, k19, fwc, frg, flm, fst, fgv, fov, ffl, fmd, fwd, xlo, xla, xlb, xll, xce, xlc, xtop, xbot, xslo, xaim, xph, xcu, xhe, xit, xst, xsb, xpv, xtr, xpr, xar, xpa, xfk, xlk, xnk, xow, xki, xfo, xre, xbe, xck, xru, xpc, xjn, xbl, xrg, xod, xnu) => wX_turns_15 post x (d + 1) (c + 1) (nI (i + 1)) k0 k1 k2 k3 k4 k5 k6 k7 k8 k9 k10 k11 k12 k13 k14 k15 k16 k17 k18 k19 fwc frg flm fst fgv fov ffl fmd fwd xlo xla xlb xll xce xlc xtop xbot xslo xaim xph xcu xhe xit xst xsb xpv xtr xpr xar xpa xfk xlk xnk xow xki xfo xre xbe xck xru xpc xjn xbl xrg xod xnu) → post' u') → wpX_step post' u (((x.toUInt32 >>> ((2 * nI i).toUInt32 &&& Int32.toUInt32 31)).toInt32) &&& 3) := by
        intro post' hp'
        rw [ej]
        refine xr_step C h (by omega) (vp_in_nI (by omega) (by decide)) ?_
        intro u' ov' μ' ph' h' le lt pk
        exact hp' u' (ih (i + 1) (c + 1) u' ov' μ' ph' (by omega) h' K)
      revert h st
      refine xw_eta (P := fun u => xr_R wc rg lim s gv ai lO lA lB lL p ov μ ph u → (∀ post' : SX → Prop, (∀ (u' : SX), (match u' with | (k0, k1, k2, k3, k4, k5, k6, k7, k8, k9, k10, k11, k12, k13, k14, k15, k16, k17, k18, k19, fwc, frg, flm, fst, fgv, fov, ffl, fmd, fwd, xlo, xla, xlb, xll, xce, xlc, xtop, xbot, xslo, xaim, xph, xcu, xhe, xit, xst, xsb, xpv, xtr, xpr, xar, xpa, xfk, xlk, xnk, xow, xki, xfo, xre, xbe, xck, xru, xpc, xjn, xbl, xrg, xod, xnu) => wX_turns_15 post x (d + 1) (c + 1) (nI (i + 1)) k0 k1 k2 k3 k4 k5 k6 k7 k8 k9 k10 k11 k12 k13 k14 k15 k16 k17 k18 k19 fwc frg flm fst fgv fov ffl fmd fwd xlo xla xlb xll xce xlc xtop xbot xslo xaim xph xcu xhe xit xst xsb xpv xtr xpr xar xpa xfk xlk xnk xow xki xfo xre xbe xck xru xpc xjn xbl xrg xod xnu) → post' u') → wpX_step post' u (((x.toUInt32 >>> ((2 * nI i).toUInt32 &&& Int32.toUInt32 31)).toInt32) &&& 3)) → (match u with | (k0, k1, k2, k3, k4, k5, k6, k7, k8, k9, k10, k11, k12, k13, k14, k15, k16, k17, k18, k19, fwc, frg, flm, fst, fgv, fov, ffl, fmd, fwd, xlo, xla, xlb, xll, xce, xlc, xtop, xbot, xslo, xaim, xph, xcu, xhe, xit, xst, xsb, xpv, xtr, xpr, xar, xpa, xfk, xlk, xnk, xow, xki, xfo, xre, xbe, xck, xru, xpc, xjn, xbl, xrg, xod, xnu) => wX_turns_15 post x (d + 1 + 1) c (nI i) k0 k1 k2 k3 k4 k5 k6 k7 k8 k9 k10 k11 k12 k13 k14 k15 k16 k17 k18 k19 fwc frg flm fst fgv fov ffl fmd fwd xlo xla xlb xll xce xlc xtop xbot xslo xaim xph xcu xhe xit xst xsb xpv xtr xpr xar xpa xfk xlk xnk xow xki xfo xre xbe xck xru xpc xjn xbl xrg xod xnu)) ?_ u
      intro k0 k1 k2 k3 k4 k5 k6 k7 k8 k9 k10 k11 k12 k13 k14 k15 k16 k17 k18 k19 fwc frg flm fst fgv fov ffl fmd fwd xlo xla xlb xll xce xlc xtop xbot xslo xaim xph xcu xhe xit xst xsb xpv xtr xpr xar xpa xfk xlk xnk xow xki xfo xre xbe xck xru xpc xjn xbl xrg xod xnu h st
      have e : fwc = nI wc := h.1.1
      refine br_f A (nm_e (br_f (by rw [e]; exact hc) (st _ ?_)))
      refine xw_eta ?_
      intro k0 k1 k2 k3 k4 k5 k6 k7 k8 k9 k10 k11 k12 k13 k14 k15 k16 k17 k18 k19 fwc frg flm fst fgv fov ffl fmd fwd xlo xla xlb xll xce xlc xtop xbot xslo xaim xph xcu xhe xit xst xsb xpv xtr xpr xar xpa xfk xlk xnk xow xki xfo xre xbe xck xru xpc xjn xbl xrg xod xnu k
      exact nm_e (nm_r (nI_1 i) k)
end
end
section
/-! the component numbers its tasks -/
section
def xf_up (xnk xpa : Nat → Int32) : Nat → Int32 → Int32
  | 0, _ => -1
  | n + 1, a => if a < 0 then -1 else if xnk a.toNatClampNeg < 0 then xf_up xnk xpa n (xpa a.toNatClampNeg) else xnk a.toNatClampNeg
def xf_F (xfk xnk xpa : Nat → Int32) (t : Int32) : Int32 := if xfk t.toNatClampNeg < 0 then xf_up xnk xpa 48 t else xfk t.toNatClampNeg
def xf_sq (xfk xnk xpa : Nat → Int32) : Nat → Int32
  | 0 => 0
  | n + 1 => xf_F xfk xnk xpa (xf_sq xfk xnk xpa n)
def xn_o (sq xod : Nat → Int32) : Nat → (Nat → Int32)
  | 0 => xod
  | n + 1 => upd (xn_o sq xod n) n (sq n)
def xn_n (sq xnu : Nat → Int32) : Nat → (Nat → Int32)
  | 0 => xnu
  | n + 1 => upd (xn_n sq xnu n) (sq n).toNatClampNeg (nI n)
def xf_ok (m : Nat) (a : Int32) : Prop := a < 0 ∨ ∃ b, b < m ∧ a = nI b
variable {k0 k1 k2 k3 k4 k5 k6 k7 k8 k9 k10 k11 k12 k13 k14 k15 k16 k17 k18 k19 fwc frg flm fst fgv fov ffl fmd fwd : Int32} {xlo xla xlb xll xce xlc xtop xbot xslo xaim xph xcu xhe xit xst xsb xpv xtr xpr xar xpa xfk xlk xnk xow xki xfo xre xbe xck xru xpc xjn xbl xrg xod xnu : Nat → Int32} {m : Nat}
theorem xf_upok (hn : ∀ a, a < m → xf_ok m (xnk a)) (hp : ∀ a, a < m → xf_ok m (xpa a)) (hm : m ≤ 48) : ∀ d a, xf_ok m a → xf_ok m (xf_up xnk xpa d a) := by
  intro d
  induction d with
  | zero => intro a _; exact Or.inl (show (-1 : Int32) < 0 by decide)
  | succ d ih =>
    intro a ha
    unfold xf_up
    by_cases h : a < 0
    · rw [if_pos h]; exact Or.inl (by decide)
    · rw [if_neg h]
      rcases ha with z | ⟨b, hb, rfl⟩
      · exact absurd z h
      · rw [nI_clamp (by omega)]
        by_cases q : xnk b < 0
        · rw [if_pos q]; exact ih _ (hp b hb)
        · rw [if_neg q]; exact hn b hb
theorem xf_Fok (hf : ∀ a, a < m → xf_ok m (xfk a)) (hn : ∀ a, a < m → xf_ok m (xnk a)) (hp : ∀ a, a < m → xf_ok m (xpa a)) (hm : m ≤ 48) {b : Nat} (hb : b < m) : xf_ok m (xf_F xfk xnk xpa (nI b)) := by
  unfold xf_F
  rw [nI_clamp (by omega)]
  by_cases q : xfk b < 0
  · rw [if_pos q]; exact xf_upok hn hp hm 48 _ (Or.inr ⟨b, hb, rfl⟩)
  · rw [if_neg q]; exact hf b hb
theorem xf_w {post : Int32 → Prop} (hp : ∀ a, a < m → xf_ok m (xpa a)) (hm : m ≤ 48) : ∀ d a, d ≤ 48 → xf_ok m a → post (xf_up xnk xpa d a) → wX_following_20 post k0 k1 k2 k3 k4 k5 k6 k7 k8 k9 k10 k11 k12 k13 k14 k15 k16 k17 k18 k19 fwc frg flm fst fgv fov ffl fmd fwd xlo xla xlb xll xce xlc xtop xbot xslo xaim xph xcu xhe xit xst xsb xpv xtr xpr xar xpa xfk xlk xnk xow xki xfo xre xbe xck xru xpc xjn xbl xrg xod xnu (d + 1) a (nI (48 - d)) := by
  intro d
  induction d with
  | zero => intro a _ _ K; exact br_t (nI_le (a := 48) (by omega) (by decide)) K
  | succ d ih =>
    intro a hd ha K
    refine br_f (nI_ge (b := 48) (by omega) (by decide)) ?_
    unfold xf_up at K
    by_cases h : a < 0
    · rw [if_pos h] at K; exact br_t h K
    · rw [if_neg h] at K
      refine br_f h ?_
      rcases ha with z | ⟨b, hb, rfl⟩
      · exact absurd z h
      · rw [nI_clamp (by omega)] at K ⊢
        have ib : vp_in (nI b) 48 := vp_in_nI (by omega) (by decide)
        refine ⟨ib, ?_⟩
        by_cases q : xnk b < 0
        · rw [if_pos q] at K
          refine br_t q ⟨ib, nm_e (nm_r (e' := nI (48 - d)) ?_ (ih _ (by omega) (hp b hb) K))⟩
          rw [nI_1, show 48 - (d + 1) + 1 = 48 - d by omega]
        · rw [if_neg q] at K
          exact br_f q ⟨ib, K⟩
theorem xf_fw {post : Int32 → Prop} (hp : ∀ a, a < m → xf_ok m (xpa a)) (hm : m ≤ 48) {b : Nat} (hb : b < m) (K : post (xf_F xfk xnk xpa (nI b))) : wpX_following post (k0, k1, k2, k3, k4, k5, k6, k7, k8, k9, k10, k11, k12, k13, k14, k15, k16, k17, k18, k19, fwc, frg, flm, fst, fgv, fov, ffl, fmd, fwd, xlo, xla, xlb, xll, xce, xlc, xtop, xbot, xslo, xaim, xph, xcu, xhe, xit, xst, xsb, xpv, xtr, xpr, xar, xpa, xfk, xlk, xnk, xow, xki, xfo, xre, xbe, xck, xru, xpc, xjn, xbl, xrg, xod, xnu) (nI b) := by
  have ib : vp_in (nI b) 48 := vp_in_nI (by omega) (by decide)
  unfold xf_F at K
  refine ⟨ib, ?_⟩
  rw [nI_clamp (by omega)] at K ⊢
  by_cases q : xfk b < 0
  · rw [if_pos q] at K
    exact br_t q ⟨49, xf_w hp hm 48 _ (by omega) (Or.inr ⟨b, hb, rfl⟩) K⟩
  · rw [if_neg q] at K
    exact br_f q ⟨ib, K⟩
theorem xf_lp {post : SX → Prop} {sq : Nat → Int32} (hs : ∀ n, sq (n + 1) = xf_F xfk xnk xpa (sq n)) (hf : ∀ a, a < m → xf_ok m (xfk a)) (hn : ∀ a, a < m → xf_ok m (xnk a)) (hp : ∀ a, a < m → xf_ok m (xpa a)) (hm : m ≤ 48) (hmd : fmd = nI m) : ∀ d n, n + d = m → xf_ok m (sq n) → (∀ e, e ≤ m → (e = m ∨ sq e < 0) → post (k0, k1, k2, k3, k4, k5, k6, k7, k8, k9, k10, k11, k12, k13, k14, k15, k16, k17, k18, k19, fwc, frg, flm, fst, fgv, fov, ffl, fmd, fwd, xlo, xla, xlb, xll, xce, xlc, xtop, xbot, xslo, xaim, xph, xcu, xhe, xit, xst, xsb, xpv, xtr, xpr, xar, xpa, xfk, xlk, xnk, xow, xki, xfo, xre, xbe, xck, xru, xpc, xjn, xbl, xrg, xn_o sq xod e, xn_n sq xnu e)) → wX_numberTasks_4 post k0 k1 k2 k3 k4 k5 k6 k7 k8 k9 k10 k11 k12 k13 k14 k15 k16 k17 k18 k19 fwc frg flm fst fgv fov ffl fmd fwd (d + 1) (sq n) (nI n) xlo xla xlb xll xce xlc xtop xbot xslo xaim xph xcu xhe xit xst xsb xpv xtr xpr xar xpa xfk xlk xnk xow xki xfo xre xbe xck xru xpc xjn xbl xrg (xn_o sq xod n) (xn_n sq xnu n) := by
  intro d
  induction d with
  | zero =>
    intro n h1 _ K
    exact br_t (by rw [hmd]; exact nI_le (by omega) (by omega)) (K n (by omega) (Or.inl (by omega)))
  | succ d ih =>
    intro n h1 h2 K
    refine br_f (by rw [hmd]; exact nI_ge (by omega) (by omega)) ?_
    by_cases h : sq n < 0
    · exact br_t h (K n (by omega) (Or.inr h))
    · refine br_f h ?_
      have h3 := h2
      rcases h2 with z | ⟨b, hb, e⟩
      · exact absurd z h
      · have i1 : vp_in (nI n) 48 := vp_in_nI (by omega) (by decide)
        have i2 : vp_in (sq n) 48 := by rw [e]; exact vp_in_nI (by omega) (by decide)
        have k := ih (n + 1) (by omega) (by rw [hs, e]; exact xf_Fok hf hn hp hm hb) K
        refine ⟨i1, nm_r (e' := xn_o sq xod (n + 1)) (by rw [nI_clamp (by omega)]; rfl) ⟨i2, nm_r (e' := xn_n sq xnu (n + 1)) rfl ?_⟩⟩
        have q : ∀ post' : Int32 → Prop, post' (sq (n + 1)) → wpX_following post' (k0, k1, k2, k3, k4, k5, k6, k7, k8, k9, k10, k11, k12, k13, k14, k15, k16, k17, k18, k19, fwc, frg, flm, fst, fgv, fov, ffl, fmd, fwd, xlo, xla, xlb, xll, xce, xlc, xtop, xbot, xslo, xaim, xph, xcu, xhe, xit, xst, xsb, xpv, xtr, xpr, xar, xpa, xfk, xlk, xnk, xow, xki, xfo, xre, xbe, xck, xru, xpc, xjn, xbl, xrg, xn_o sq xod (n + 1), xn_n sq xnu (n + 1)) (sq n) := by
          intro post' kp
          rw [e]
          refine xf_fw hp hm hb ?_
          rw [← e, ← hs]; exact kp
        exact q _ (nm_r (nI_1 n) k)
theorem xf_num {post : SX → Prop} (hf : ∀ a, a < m → xf_ok m (xfk a)) (hn : ∀ a, a < m → xf_ok m (xnk a)) (hp : ∀ a, a < m → xf_ok m (xpa a)) (h0 : 0 < m) (hm : m ≤ 48) (hmd : fmd = nI m) (K : ∀ e, e ≤ m → (e = m ∨ xf_sq xfk xnk xpa e < 0) → post (k0, k1, k2, k3, k4, k5, k6, k7, k8, k9, k10, k11, k12, k13, k14, k15, k16, k17, k18, k19, fwc, frg, flm, fst, fgv, fov, ffl, fmd, fwd, xlo, xla, xlb, xll, xce, xlc, xtop, xbot, xslo, xaim, xph, xcu, xhe, xit, xst, xsb, xpv, xtr, xpr, xar, xpa, xfk, xlk, xnk, xow, xki, xfo, xre, xbe, xck, xru, xpc, xjn, xbl, xrg, xn_o (xf_sq xfk xnk xpa) xod e, xn_n (xf_sq xfk xnk xpa) xnu e)) : wpX_numberTasks post (k0, k1, k2, k3, k4, k5, k6, k7, k8, k9, k10, k11, k12, k13, k14, k15, k16, k17, k18, k19, fwc, frg, flm, fst, fgv, fov, ffl, fmd, fwd, xlo, xla, xlb, xll, xce, xlc, xtop, xbot, xslo, xaim, xph, xcu, xhe, xit, xst, xsb, xpv, xtr, xpr, xar, xpa, xfk, xlk, xnk, xow, xki, xfo, xre, xbe, xck, xru, xpc, xjn, xbl, xrg, xod, xnu) :=
  ⟨m + 1, xf_lp (sq := xf_sq xfk xnk xpa) (fun _ => rfl) hf hn hp hm hmd m 0 (by omega) (Or.inr ⟨0, h0, rfl⟩) K⟩
end
end
section
/-! the reference's arrays hold a table -/
section
def yt_c (ytp ytl : Nat → Int32) (a b : Int32) : Nat → Nat := fun i => if ytp i = a ∧ ytl i = b then 1 else 0
def yt_T (m : Nat) (st : Nat → zl_T) (par kx : Nat → Nat) (pm : Nat → zl_P) (gmd gtr : Int32) (ypr yar ypa yre ybe yck ynx you yfo yrg yce ytp ytl : Nat → Int32) : Prop :=
  gmd = nI m ∧ gtr = nI (sn_s (fun t => zl_nl (st t)) m) ∧
  (∀ c, c < 4 → yce c = si_s (fun t => zl_tl (st t) c) m) ∧
  (∀ t, t < m → ypr t = nI (zl_pr (st t))) ∧ (∀ t, t < m → yar t = (pm t).2.1) ∧ (∀ t, t < m → ybe t = (pm t).2.2) ∧
  (∀ t, t < m → ypa t = if t = 0 then -1 else nI (par t)) ∧ (∀ t, t < m → yre t = zl_rs (st t)) ∧ (∀ t, t < m → yck t = zl_ck (st t)) ∧
  (∀ t, t < m → zl_dn (st t) = false → ynx t = nI (zl_pc (st t))) ∧
  (∀ t, t < m → you t = if 0 < t ∧ kx t < zl_ow (st (par t)) then 0 else 1) ∧ (∀ t, t < m → yfo t = if 0 < t ∧ kx t < zl_ow (st (par t)) then 1 else 0) ∧
  (∀ t r, t < m → r < 4 → yrg (4 * t + r) = zl_rg (st t) r) ∧
  (∀ q l, q < 4 → l < 10 → sn_s (yt_c ytp ytl (nI q) (nI l)) (sn_s (fun t => zl_nl (st t)) m) = sn_s (fun t => zl_cn (st t) (q * 10 + l)) m) ∧
  (∀ i, i < sn_s (fun t => zl_nl (st t)) m → ∃ q l, q < 4 ∧ l < 10 ∧ ytp i = nI q ∧ ytl i = nI l)
variable {m : Nat} {st : Nat → zl_T} {par kx : Nat → Nat} {kid : Nat → Nat → Nat} {pm : Nat → zl_P} {gmd gtr : Int32} {ypr yar ypa yre ybe yck ynx you yfo yrg yce ytp ytl : Nat → Int32}
/-- the trace with one more line -/
theorem yt_tr (T : yt_T m st par kx pm gmd gtr ypr yar ypa yre ybe yck ynx you yfo yrg yce ytp ytl) {t : Nat} (ht : t < m) (hp : zl_pr (st t) < 4) (hc : zl_pc (st t) < 10) {S' : Nat} {C' : Nat → Nat} (hS : S' = sn_s (fun t => zl_nl (st t)) m + 1) (hC : ∀ i, C' i = sn_s (fun t => zl_cn (st t) i) m + (if i = zl_at (st t) then 1 else 0)) {Z : Nat} (hZ : Z = sn_s (fun t => zl_nl (st t)) m) :
    gtr + 1 = nI S' ∧ (∀ q l, q < 4 → l < 10 → sn_s (yt_c (upd ytp Z (nI (zl_pr (st t)))) (upd ytl Z (nI (zl_pc (st t)))) (nI q) (nI l)) S' = C' (q * 10 + l)) ∧ (∀ i, i < S' → ∃ q l, q < 4 ∧ l < 10 ∧ upd ytp Z (nI (zl_pr (st t))) i = nI q ∧ upd ytl Z (nI (zl_pc (st t))) i = nI l) := by
  obtain ⟨T1, T2, T3, T4, T5, T6, T7, T8, T9, T10, T11, T12, T13, T14, T15⟩ := T
  subst hS hZ
  refine ⟨by rw [T2, nI_1], ?_, ?_⟩
  · intro q l hq hl
    rw [sn_1, hC, ← T14 q l hq hl]
    have e : sn_s (yt_c (upd ytp (sn_s (fun t => zl_nl (st t)) m) (nI (zl_pr (st t)))) (upd ytl (sn_s (fun t => zl_nl (st t)) m) (nI (zl_pc (st t)))) (nI q) (nI l)) (sn_s (fun t => zl_nl (st t)) m) = sn_s (yt_c ytp ytl (nI q) (nI l)) (sn_s (fun t => zl_nl (st t)) m) := sn_c (fun i hi => by unfold yt_c; rw [us_n (by omega), us_n (by omega)])
    rw [e]
    unfold yt_c
    rw [us_s, us_s]
    by_cases z : zl_pr (st t) = q ∧ zl_pc (st t) = l
    · rw [if_pos ⟨by rw [z.1], by rw [z.2]⟩, if_pos (by unfold zl_at; omega)]
    · rw [if_neg, if_neg]
      · unfold zl_at; omega
      · rintro ⟨z1, z2⟩
        exact z ⟨(nI_eq (by omega) (by omega)).mp z1, (nI_eq (by omega) (by omega)).mp z2⟩
  · intro i hi
    by_cases q : i = sn_s (fun t => zl_nl (st t)) m
    · subst q; exact ⟨_, _, hp, hc, us_s, us_s⟩
    · rw [us_n q, us_n q]; exact T15 i (by omega)
theorem yt_S {l' : zl_T} {t : Nat} (ht : t < m) (F : zl_T → Nat) : sn_s (fun i => F (fu st t l' i)) m + F (st t) = sn_s (fun i => F (st i)) m + F l' := by
  have a := sn_u (f := fun i => F (st i)) (t := t) (v := F l') ht
  have e : sn_s (fun i => F (fu st t l' i)) m = sn_s (fu (fun i => F (st i)) t (F l')) m := sn_c (fun i _ => by unfold fu; split <;> rfl)
  rw [e]; exact a
theorem yt_up (T : yt_T m st par kx pm gmd gtr ypr yar ypa yre ybe yck ynx you yfo yrg yce ytp ytl) {t : Nat} (ht : t < m) {l' : zl_T} {gtr' : Int32} {yce' ytp' ytl' yrg' you' yfo' ynx' : Nat → Int32} {Vck Vre : Int32}
    (epr : zl_pr l' = zl_pr (st t)) (hck : Vck = zl_ck l') (hre : Vre = zl_rs l') (hnx : zl_dn l' = false → ynx' t = nI (zl_pc l')) (hnx2 : ∀ i, i ≠ t → ynx' i = ynx i)
    (hrg : ∀ r, r < 4 → yrg' (4 * t + r) = zl_rg l' r) (hrg2 : ∀ t' r, t' ≠ t → r < 4 → yrg' (4 * t' + r) = yrg (4 * t' + r))
    (hce : ∀ c, c < 4 → yce' c + zl_tl (st t) c = yce c + zl_tl l' c)
    (hyo : ∀ i, i < m → you' i = if 0 < i ∧ kx i < zl_ow (fu st t l' (par i)) then 0 else 1) (hyf : ∀ i, i < m → yfo' i = if 0 < i ∧ kx i < zl_ow (fu st t l' (par i)) then 1 else 0)
    (h1 : gtr' = nI (sn_s (fun i => zl_nl (fu st t l' i)) m)) (h2 : ∀ q l, q < 4 → l < 10 → sn_s (yt_c ytp' ytl' (nI q) (nI l)) (sn_s (fun i => zl_nl (fu st t l' i)) m) = sn_s (fun i => zl_cn (fu st t l' i) (q * 10 + l)) m) (h3 : ∀ i, i < sn_s (fun i => zl_nl (fu st t l' i)) m → ∃ q l, q < 4 ∧ l < 10 ∧ ytp' i = nI q ∧ ytl' i = nI l) :
    yt_T m (fu st t l') par kx pm gmd gtr' ypr yar ypa (upd yre t Vre) ybe (upd yck t Vck) ynx' you' yfo' yrg' yce' ytp' ytl' := by
  obtain ⟨T1, T2, T3, T4, T5, T6, T7, T8, T9, T10, T11, T12, T13, T14, T15⟩ := T
  refine ⟨T1, h1, ?_, xt_k (F := fun _ l => nI (zl_pr l)) T4 (by rw [epr]), T5, T6, T7, xt_f (F := fun _ l => zl_rs l) T8 hre, xt_f (F := fun _ l => zl_ck l) T9 hck, ?_, hyo, hyf, ?_, h2, h3⟩
  · intro c hc
    have a := si_u (f := fun t => zl_tl (st t) c) (t := t) (v := zl_tl l' c) ht
    have e : si_s (fun i => zl_tl (fu st t l' i) c) m = si_s (fu (fun t => zl_tl (st t) c) t (zl_tl l' c)) m := si_c (fun i _ => by unfold fu; split <;> rfl)
    rw [e]
    refine i32_rc (c := zl_tl (st t) c) ?_
    rw [hce c hc, T3 c hc]; exact a.symm
  · intro i hi
    by_cases q : i = t
    · subst q; rw [fu_s]; exact hnx
    · rw [fu_n q, hnx2 i q]; exact T10 i hi
  · intro i r hi hr
    by_cases q : i = t
    · subst q; rw [fu_s]; exact hrg r hr
    · rw [fu_n q, hrg2 i r q hr]; exact T13 i r hi hr
theorem yt_ow {l' : zl_T} {t : Nat} (e : zl_ow l' = zl_ow (st t)) {x : Nat → Int32} {a b : Int32} (h : ∀ i, i < m → x i = if 0 < i ∧ kx i < zl_ow (st (par i)) then a else b) : ∀ i, i < m → x i = if 0 < i ∧ kx i < zl_ow (fu st t l' (par i)) then a else b := by
  intro i hi
  by_cases q : par i = t
  · rw [q, fu_s, e, ← q]; exact h i hi
  · rw [fu_n q]; exact h i hi
/-- the run is serial: the open tasks are the present one and those it descends from; the order of making is that of a depth-first walk -/
def ys_D (st : Nat → zl_T) (par kx : Nat → Nat) (a c : Nat) : Prop := ∃ (r : Nat) (f : Nat → Nat), f 0 = a ∧ f r = c ∧ ∀ i, i < r → 0 < f i ∧ f (i + 1) = par (f i) ∧ kx (f i) + 1 = zl_nk (st (f (i + 1))) ∧ zl_dn (st (f i)) = true
def ys_N (m : Nat) (st : Nat → zl_T) (par kx : Nat → Nat) (n y : Nat) : Prop := (par y = n ∧ kx y = 0) ∨ (zl_nk (st n) = 0 ∧ ∃ (r : Nat) (f : Nat → Nat), f 0 = n ∧ (∀ i, i ≤ r → f i < m ∧ 0 < f i ∧ zl_dn (st (f i)) = true) ∧ (∀ i, i < r → f (i + 1) = par (f i) ∧ kx (f i) + 1 = zl_nk (st (f (i + 1)))) ∧ par (f r) = par y ∧ kx y = kx (f r) + 1)
def ys_I (m : Nat) (st : Nat → zl_T) (par kx : Nat → Nat) (kid : Nat → Nat → Nat) (cur : Nat) : Prop :=
  cur < m ∧ zl_dn (st cur) = false ∧
  (∀ t, 0 < t → t < m → zl_dn (st t) = false → zl_dn (st (par t)) = false ∧ kx t + 1 = zl_nk (st (par t))) ∧
  (∀ k, k < zl_nk (st cur) → zl_dn (st (kid cur k)) = true) ∧
  ys_D st par kx (m - 1) cur
def ys_F (m : Nat) (st : Nat → zl_T) (par kx : Nat → Nat) : Prop := ∀ n, n + 1 < m → ys_N m st par kx n (n + 1)
theorem ys_Fu {m' : Nat} {st' : Nat → zl_T} {par' kx' : Nat → Nat} (hm : m ≤ m') (hp : ∀ i, i < m → par' i = par i ∧ kx' i = kx i) (hs : ∀ i, i < m → zl_dn (st i) = true → st' i = st i) (G1 : ∀ t, 0 < t → t < m → par t < t) {n y : Nat} (hn : n < m) (hy : y < m) (h : ys_N m st par kx n y) : ys_N m' st' par' kx' n y := by
  rcases h with ⟨a, b⟩ | ⟨a, r, f, f0, f1, f2, f3, f4⟩
  · exact Or.inl ⟨(hp y hy).1.trans a, (hp y hy).2.trans b⟩
  · have d0 := (f1 0 (Nat.zero_le _)).2.2
    rw [f0] at d0
    refine Or.inr ⟨by rw [hs _ hn d0]; exact a, r, f, f0, ?_, ?_, ?_, ?_⟩
    · intro i hi
      obtain ⟨x1, x2, x3⟩ := f1 i hi
      exact ⟨by omega, x2, by rw [hs _ x1 x3]; exact x3⟩
    · intro i hi
      obtain ⟨x1, x2, x3⟩ := f1 i (by omega)
      obtain ⟨y1, y2, y3⟩ := f1 (i + 1) (by omega)
      obtain ⟨z1, z2⟩ := f2 i hi
      rw [(hp _ x1).1, (hp _ x1).2, hs _ y1 y3]
      exact ⟨z1, z2⟩
    · obtain ⟨x1, x2, x3⟩ := f1 r (Nat.le_refl _)
      rw [(hp _ x1).1, (hp _ hy).1]; exact f3
    · obtain ⟨x1, x2, x3⟩ := f1 r (Nat.le_refl _)
      rw [(hp _ x1).2, (hp _ hy).2]; exact f4
end
end
section
/-! the serial run -/
section
variable {g : zl_G} {m : Nat} {st : Nat → zl_T} {par kx : Nat → Nat} {kid : Nat → Nat → Nat} {pm : Nat → zl_P} {cur : Nat} {l' : zl_T}
theorem ys_F1 (G : zg_G g m st par kx kid pm) (F : ys_F m st par kx) (hd : zl_dn (st cur) = false) : ys_F m (fu st cur l') par kx := by
  intro n hn
  refine ys_Fu (Nat.le_refl _) (fun i _ => ⟨rfl, rfl⟩) (fun i _ d => fu_n (by intro z; subst z; rw [hd] at d; exact absurd d (by decide))) (fun t a b => (G.2.1 t a b).1) (by omega) hn (F n hn)
theorem ys_st (G : zg_G g m st par kx kid pm) (I : ys_I m st par kx kid cur) (enk : zl_nk l' = zl_nk (st cur)) (dl : zl_dn l' = false) : ys_I m (fu st cur l') par kx kid cur := by
  obtain ⟨i1, i2, i3, i4, r, f, f0, fr, fi⟩ := I
  have nkk : ∀ i, zl_nk (fu st cur l' i) = zl_nk (st i) := by
    intro i
    by_cases q : i = cur
    · subst q; rw [fu_s]; exact enk
    · rw [fu_n q]
  have dnn : ∀ i, zl_dn (fu st cur l' i) = zl_dn (st i) := by
    intro i
    by_cases q : i = cur
    · subst q; rw [fu_s, dl, i2]
    · rw [fu_n q]
  refine ⟨i1, by rw [dnn]; exact i2, ?_, ?_, r, f, f0, fr, ?_⟩
  · intro t h1 h2; rw [dnn, dnn, nkk]; exact i3 t h1 h2
  · intro k; rw [nkk, dnn]; exact i4 k
  · intro i hi; rw [nkk, dnn]; exact fi i hi
theorem ys_en (G : zg_G g m st par kx kid pm) (I : ys_I m st par kx kid cur) (h0 : 0 < cur) (enk : zl_nk l' = zl_nk (st cur)) (dl : zl_dn l' = true) : ys_I m (fu st cur l') par kx kid (par cur) := by
  obtain ⟨i1, i2, i3, i4, r, f, f0, fr, fi⟩ := I
  obtain ⟨a1, a2, a3⟩ := G.2.1 cur h0 i1
  obtain ⟨b1, b2⟩ := i3 cur h0 i1 i2
  have nkk : ∀ i, zl_nk (fu st cur l' i) = zl_nk (st i) := by
    intro i
    by_cases q : i = cur
    · subst q; rw [fu_s]; exact enk
    · rw [fu_n q]
  refine ⟨by omega, by rw [fu_n (by omega)]; exact b1, ?_, ?_, r + 1, fun i => if i ≤ r then f i else par cur, ?_, ?_, ?_⟩
  · intro t h1 h2 d
    have tc : t ≠ cur := by intro z; subst z; rw [fu_s, dl] at d; exact absurd d (by decide)
    rw [fu_n tc] at d
    obtain ⟨x1, x2⟩ := i3 t h1 h2 d
    obtain ⟨y1, y2, y3⟩ := G.2.1 t h1 h2
    have pc : par t ≠ cur := by
      intro z
      rw [z] at y2 y3
      have := i4 (kx t) y2
      rw [y3, d] at this; exact absurd this (by decide)
    rw [nkk, fu_n pc]; exact ⟨x1, x2⟩
  · intro k
    rw [nkk]
    intro hk
    obtain ⟨x1, x2, x3, x4, x5⟩ := G.2.2.1 (par cur) k (by omega) hk
    by_cases q : kid (par cur) k = cur
    · rw [q, fu_s]; exact dl
    · rw [fu_n q]
      cases d : zl_dn (st (kid (par cur) k)) with
      | true => rfl
      | false =>
        have := (i3 _ (by omega) x2 d).2
        rw [x3, x4] at this
        have e : k = kx cur := by omega
        exact absurd (by rw [e]; exact a3) q
  · dsimp only; rw [if_pos (Nat.zero_le _)]; exact f0
  · dsimp only; rw [if_neg (by omega)]
  · intro i hi
    rw [nkk]
    dsimp only
    by_cases q : i = r
    · subst q
      rw [if_pos (Nat.le_refl _), if_neg (by omega), fr, fu_s]
      exact ⟨h0, rfl, b2, dl⟩
    · rw [if_pos (by omega), if_pos (by omega)]
      obtain ⟨x1, x2, x3, x4⟩ := fi i (by omega)
      refine ⟨x1, x2, x3, ?_⟩
      rw [fu_n (by intro z; rw [z, i2] at x4; exact absurd x4 (by decide))]; exact x4
theorem ys_sp (G : zg_G g m st par kx kid pm) (I : ys_I m st par kx kid cur) (F : ys_F m st par kx) (enk : zl_nk l' = zl_nk (st cur) + 1) (dl : zl_dn l' = false) (p : zl_P) : ys_I (m + 1) (fu (fu st cur l') m (zl_ini p)) (fu par m cur) (fu kx m (zl_nk (st cur))) (zg_k kid cur (zl_nk (st cur)) m) m ∧ ys_F (m + 1) (fu (fu st cur l') m (zl_ini p)) (fu par m cur) (fu kx m (zl_nk (st cur))) := by
  obtain ⟨i1, i2, i3, i4, r, f, f0, fr, fi⟩ := I
  have So : ∀ i, i < m → i ≠ cur → fu (fu st cur l') m (zl_ini p) i = st i := fun i a b => by rw [fu_n (by omega), fu_n b]
  have Sc : fu (fu st cur l') m (zl_ini p) cur = l' := by rw [fu_n (by omega), fu_s]
  have nc : ∀ i, zl_dn (st i) = true → i ≠ cur := fun i d z => by subst z; rw [i2] at d; exact absurd d (by decide)
  have none : zl_nk (st (m - 1)) = 0 := by
    rcases Nat.eq_zero_or_pos (zl_nk (st (m - 1))) with z | z
    · exact z
    · have := G.2.2.1 (m - 1) 0 (by omega) z; omega
  constructor
  · refine ⟨by omega, by rw [fu_s]; rfl, ?_, ?_, 0, fun _ => m, rfl, rfl, fun i hi => by omega⟩
    · intro t h1 h2 d
      by_cases q : t = m
      · subst q; rw [fu_s, fu_s, Sc, enk]; exact ⟨dl, rfl⟩
      · rw [fu_n (f := par) q, fu_n (f := kx) q]
        have ht : t < m := by omega
        have dt : zl_dn (st t) = false := by
          by_cases q2 : t = cur
          · rw [q2]; exact i2
          · rw [So t ht q2] at d; exact d
        obtain ⟨x1, x2⟩ := i3 t h1 ht dt
        obtain ⟨y1, y2, y3⟩ := G.2.1 t h1 ht
        have pc : par t ≠ cur := by
          intro z
          rw [z] at y2 y3
          have := i4 (kx t) y2
          rw [y3, dt] at this; exact absurd this (by decide)
        rw [So _ (by omega) pc]; exact ⟨x1, x2⟩
    · intro k hk; rw [fu_s] at hk; exact absurd hk (Nat.not_lt_zero _)
  · intro n hn
    by_cases q : n + 1 = m
    · have en : n = m - 1 := by omega
      rw [q]
      have fm : ∀ i, i ≤ r → f i < m := by
        intro i
        induction i with
        | zero => intro _; rw [f0]; omega
        | succ i ih =>
          intro hi
          obtain ⟨x1, x2, _⟩ := fi i (by omega)
          have := (G.2.1 (f i) x1 (ih (by omega))).1
          have := ih (by omega)
          omega
      rcases Nat.eq_zero_or_pos r with z | z
      · refine Or.inl ?_
        rw [fu_s, fu_s, en, ← f0]
        have e : f 0 = cur := by rw [z] at fr; exact fr
        refine ⟨e.symm, ?_⟩
        rw [← e, f0]; exact none
      · have c0 : n ≠ cur := by
          have := (fi 0 z).2.2.2
          rw [f0, ← en] at this
          exact nc n this
        refine Or.inr ⟨by rw [So n (by omega) c0, en]; exact none, r - 1, f, by rw [f0, en], ?_, ?_, ?_, ?_⟩
        · intro i hi
          obtain ⟨x1, x2, x3, x4⟩ := fi i (by omega)
          have lt := fm i (by omega)
          exact ⟨by omega, x1, by rw [So _ lt (nc _ x4)]; exact x4⟩
        · intro i hi
          obtain ⟨x1, x2, x3, x4⟩ := fi i (by omega)
          obtain ⟨y1, y2, y3, y4⟩ := fi (i + 1) (by omega)
          have lt := fm i (by omega)
          have lt2 := fm (i + 1) (by omega)
          rw [fu_n (f := par) (by omega), fu_n (f := kx) (by omega), So _ lt2 (nc _ y4)]
          exact ⟨x2, x3⟩
        · have lt := fm (r - 1) (by omega)
          rw [fu_n (by omega), fu_s]
          have := (fi (r - 1) (by omega)).2.1
          rw [show r - 1 + 1 = r by omega, fr] at this
          exact this.symm
        · have lt := fm (r - 1) (by omega)
          rw [fu_s, fu_n (by omega)]
          have := (fi (r - 1) (by omega)).2.2.1
          rw [show r - 1 + 1 = r by omega, fr] at this
          exact this.symm
    · exact ys_Fu (by omega) (fun i hi => ⟨fu_n (by omega), fu_n (by omega)⟩) (fun i hi d => So i hi (nc i d)) (fun t a b => (G.2.1 t a b).1) (by omega) (by omega) (F n (by omega))
end
end
section
/-! the reference's walks -/
section
def yw_z (m : Nat) : Nat → Nat → (Nat → Int32) → (Nat → Int32)
  | 0, _, f => f
  | d + 1, i, f => yw_z m d (i + 1) (upd f (4 * m + i) 0)
variable {gwc grg glm gst ggv grp gra gmd gtr : Int32} {yvi yli yco ypr yar ypa yre ybe yck ynx you yfo yrg yce ytp ytl : Nat → Int32}
theorem vb0 : vp_nar .boolean 0 = 0 := rfl
theorem vb1 : vp_nar .boolean 1 = 1 := rfl
theorem yw_eta {P : SY → Prop} (h : ∀ gwc grg glm gst ggv grp gra gmd gtr yvi yli yco ypr yar ypa yre ybe yck ynx you yfo yrg yce ytp ytl, P (gwc, grg, glm, gst, ggv, grp, gra, gmd, gtr, yvi, yli, yco, ypr, yar, ypa, yre, ybe, yck, ynx, you, yfo, yrg, yce, ytp, ytl)) (u : SY) : P u := by
  obtain ⟨gwc, grg, glm, gst, ggv, grp, gra, gmd, gtr, yvi, yli, yco, ypr, yar, ypa, yre, ybe, yck, ynx, you, yfo, yrg, yce, ytp, ytl⟩ := u
  exact h gwc grg glm gst ggv grp gra gmd gtr yvi yli yco ypr yar ypa yre ybe yck ynx you yfo yrg yce ytp ytl
theorem yw_make {post : SY → Prop} {q0 q1 q2 q3 : Int32} {m : Nat} (hm : m < 48) (em : gmd = nI m)
    (K : post (gwc, grg, glm, gst, ggv, grp, gra, nI (m + 1), gtr, yvi, yli, yco, upd ypr m q0, upd yar m q1, upd ypa m q2, upd yre m 0, upd ybe m q3, upd yck m q3, upd ynx m 0, upd you m 1, upd yfo m 0, upd (upd (upd (upd (upd yrg (4 * m) 0) (4 * m + 1) 0) (4 * m + 2) 0) (4 * m + 3) 0) (4 * m) q1, yce, ytp, ytl)) : wpY_make post (gwc, grg, glm, gst, ggv, grp, gra, gmd, gtr, yvi, yli, yco, ypr, yar, ypa, yre, ybe, yck, ynx, you, yfo, yrg, yce, ytp, ytl) q0 q1 q2 q3 := by
  subst em
  have im : vp_in (nI m) 48 := vp_in_nI hm (by decide)
  have cm : (nI m).toNatClampNeg = m := nI_clamp (by omega)
  have e : nI m * 4 = nI (4 * m) := by
    show nI m * nI 4 = _
    rw [pk_mul, Nat.mul_comm]
  have c0 : (nI (4 * m)).toNatClampNeg = 4 * m := nI_clamp (by omega)
  have ci : ∀ i : Nat, i < 4 → nI (4 * m) + nI i = nI (4 * m + i) ∧ (nI (4 * m + i)).toNatClampNeg = 4 * m + i ∧ vp_in (nI (4 * m + i)) 192 := fun i hi => ⟨nI_add _ _, nI_clamp (by omega), vp_in_nI (by omega) (by decide)⟩
  unfold wpY_make
  simp only [cm, vb0, vb1, nI_1]
  refine nm_e ⟨im, nm_e ⟨im, nm_e ⟨im, nm_e ⟨im, nm_e ⟨im, nm_e ⟨im, nm_e ⟨im, nm_e ⟨im, nm_e ⟨im, nm_e ⟨5, ?_⟩⟩⟩⟩⟩⟩⟩⟩⟩⟩
  have L : ∀ (d i : Nat) (rg' : Nat → Int32), i + d = 4 → post (gwc, grg, glm, gst, ggv, grp, gra, nI (m + 1), gtr, yvi, yli, yco, upd ypr m q0, upd yar m q1, upd ypa m q2, upd yre m 0, upd ybe m q3, upd yck m q3, upd ynx m 0, upd you m 1, upd yfo m 0, upd (yw_z m d i rg') (4 * m) q1, yce, ytp, ytl) → wY_make_93 post q1 (nI m) gwc grg glm gst ggv grp gra (nI (m + 1)) gtr (d + 1) (nI i) yvi yli yco (upd ypr m q0) (upd yar m q1) (upd ypa m q2) (upd yre m 0) (upd ybe m q3) (upd yck m q3) (upd ynx m 0) (upd you m 1) (upd yfo m 0) rg' yce ytp ytl := by
    intro d
    induction d with
    | zero =>
      intro i rg' hi k
      unfold wY_make_93
      rw [e, c0]
      exact br_t (nI_le (a := 4) (by omega) (by omega)) ⟨vp_in_nI (by omega) (by decide), nm_e k⟩
    | succ d ih =>
      intro i rg' hi k
      obtain ⟨x1, x2, x3⟩ := ci i (by omega)
      unfold wY_make_93
      rw [e, x1, x2]
      exact br_f (nI_ge (b := 4) (by omega) (by decide)) ⟨x3, nm_e (nm_r (nI_1 i) (ih (i + 1) _ (by omega) k))⟩
  exact L 4 0 yrg rfl K
end
end
section
/-! the reference: waiting, folding, the lines -/
section
def yw_x (ow k : Nat) : Nat := if k < ow then ow else k
def yw_o (kk : Nat → Nat) (v : Int32) : Nat → Nat → (Nat → Int32) → (Nat → Int32)
  | _, 0, f => f
  | i, d + 1, f => yw_o kk v (i + 1) d (upd f (kk i) v)
def yw_K (m t n : Nat) (par kx : Nat → Nat) (kk : Nat → Nat) : Prop :=
  (∀ k, k < n → t < kk k ∧ kk k < m ∧ par (kk k) = t ∧ kx (kk k) = k) ∧ (∀ c, 0 < c → c < m → par c = t → kx c < n ∧ kk (kx c) = c) ∧ (∀ i j, i < j → j < n → kk i < kk j)
theorem yw_oe {kk : Nat → Nat} {v : Int32} : ∀ (d i : Nat) (f : Nat → Int32) (c : Nat), (∀ j, i ≤ j → j < i + d → c ≠ kk j) → yw_o kk v i d f c = f c
  | 0, _, _, _, _ => rfl
  | d + 1, i, f, c, h => by
    show yw_o kk v (i + 1) d (upd f (kk i) v) c = f c
    rw [yw_oe d (i + 1) _ c (fun j h1 h2 => h j (by omega) (by omega)), us_n (h i (Nat.le_refl _) (by omega))]
theorem yw_oi {kk : Nat → Nat} {v : Int32} {n : Nat} (hm : ∀ i j, i < j → j < n → kk i < kk j) : ∀ (d i : Nat) (f : Nat → Int32) (j : Nat), i + d ≤ n → i ≤ j → j < i + d → yw_o kk v i d f (kk j) = v
  | 0, _, _, _, _, _, _ => by omega
  | d + 1, i, f, j, h0, h1, h2 => by
    show yw_o kk v (i + 1) d (upd f (kk i) v) (kk j) = v
    by_cases q : j = i
    · subst q
      rw [yw_oe d (j + 1) _ _ (fun l h3 h4 => by have := hm j l (by omega) (by omega); omega), us_s]
    · exact yw_oi hm d (i + 1) _ j (by omega) (by omega) (by omega)
variable {gwc grg glm gst ggv grp gra gmd gtr : Int32} {yvi yli yco ypr yar ypa yre ybe yck ynx you yfo yrg yce ytp ytl : Nat → Int32}
theorem yw_awl {post : SY → Prop} {t m ow n : Nat} {par kx kk : Nat → Nat} (ht : t < 48) (hm : m ≤ 48) (em : gmd = nI m) (hpa : ∀ c, c < m → (ypa c = nI t ↔ 0 < c ∧ par c = t)) (KK : yw_K m t n par kx kk) (hyo : ∀ k, k < n → you (kk k) = if k < ow then 0 else 1) : ∀ (d c k : Nat) (v : Int32), c + d = 48 → k ≤ n → (∀ i, i < k → kk i < c) → (∀ i, k ≤ i → i < n → c ≤ kk i) → post (gwc, grg, glm, gst, ggv, grp, gra, gmd, gtr, yvi, yli, yco, ypr, yar, ypa, yre, ybe, upd yck t (zl_mx (fun k => (yre (kk k), yck (kk k))) v (yw_x ow k) (n - yw_x ow k)), ynx, you, yfo, yrg, yce, ytp, ytl) → wY_await_2 post (nI t) gwc grg glm gst ggv grp gra gmd gtr (d + 1) (nI c) yvi yli yco ypr yar ypa yre ybe (upd yck t v) ynx you yfo yrg yce ytp ytl := by
  obtain ⟨k1, k2, k3⟩ := KK
  intro d
  induction d with
  | zero =>
    intro c k v h1 h2 h3 h4 K
    refine br_t (nI_le (a := 48) (by omega) (by omega)) ?_
    have kn : k = n := by
      rcases Nat.lt_or_ge k n with z | z
      · have := h4 k (Nat.le_refl _) z
        have := (k1 k z).2.1
        omega
      · omega
    have e : n - yw_x ow k = 0 := by unfold yw_x; split <;> omega
    rw [e] at K; exact K
  | succ d ih =>
    intro c k v h1 h2 h3 h4 K
    have cc : (nI c).toNatClampNeg = c := nI_clamp (by omega)
    have ct : (nI t).toNatClampNeg = t := nI_clamp (by omega)
    have ic : vp_in (nI c) 48 := vp_in_nI (by omega) (by decide)
    have it : vp_in (nI t) 48 := vp_in_nI ht (by decide)
    unfold wY_await_2
    simp only [cc, ct, us_s, us_us]
    refine br_f (nI_ge (b := 48) (by omega) (by decide)) ?_
    by_cases hcm : m ≤ c
    · refine br_t (by rw [em]; exact nI_le hcm (by omega)) (nm_r (nI_1 c) (ih (c + 1) k v (by omega) h2 (fun i hi => by have := h3 i hi; omega) (fun i h5 h6 => ?_) K))
      have := h4 i h5 h6
      have := (k1 i h6).2.1
      omega
    · refine br_f (by rw [em]; exact nI_ge (by omega) (by omega)) ⟨ic, ?_⟩
      by_cases hp : ypa c = nI t
      · obtain ⟨p1, p2⟩ := (hpa c (by omega)).mp hp
        obtain ⟨q1, q2⟩ := k2 c p1 (by omega) p2
        have ek : kx c = k := by
          rcases Nat.lt_trichotomy (kx c) k with z | z | z
          · have := h3 _ z; omega
          · exact z
          · have := k3 k (kx c) z q1
            have := h4 k (Nat.le_refl _) (by omega)
            omega
        rw [ek] at q1 q2
        have ne : c ≠ t := by have := (k1 k q1).1; omega
        have up : ∀ i, i < k + 1 → kk i < c + 1 := fun i hi => by
          by_cases z : i = k
          · rw [z]; omega
          · have := h3 i (by omega); omega
        have dn : ∀ i, k + 1 ≤ i → i < n → c + 1 ≤ kk i := fun i h5 h6 => by have := k3 k i (by omega) h6; omega
        have yo := hyo k q1
        rw [q2] at yo
        refine br_t hp ⟨ic, ?_⟩
        by_cases hl : k < ow
        · rw [if_pos hl] at yo
          refine br_t yo (nm_r (nI_1 c) (ih (c + 1) (k + 1) v (by omega) (by omega) up dn ?_))
          have e : yw_x ow (k + 1) = yw_x ow k := by unfold yw_x; rw [if_pos hl]; split <;> omega
          rw [e]; exact K
        · rw [if_neg hl] at yo
          have ex : yw_x ow k = k := if_neg hl
          have ex1 : yw_x ow (k + 1) = k + 1 := if_neg (by omega)
          rw [ex, show n - k = (n - (k + 1)) + 1 by omega] at K
          have K' : post (gwc, grg, glm, gst, ggv, grp, gra, gmd, gtr, yvi, yli, yco, ypr, yar, ypa, yre, ybe, upd yck t (zl_mx (fun k => (yre (kk k), yck (kk k))) (zl_m1 v (yck (kk k))) (k + 1) (n - (k + 1))), ynx, you, yfo, yrg, yce, ytp, ytl) := K
          rw [q2] at K'
          unfold zl_m1 at K'
          simp only [us_n ne]
          refine br_f (by rw [yo]; decide) ⟨ic, ⟨it, br_c (fun hc => nm_r (nI_1 c) (ih (c + 1) (k + 1) v (by omega) (by omega) up dn ?_)) (fun hc => ⟨ic, ⟨it, nm_e (nm_r (nI_1 c) (ih (c + 1) (k + 1) (yck c) (by omega) (by omega) up dn ?_))⟩⟩)⟩⟩
          · rw [if_pos hc] at K'; rw [ex1]; exact K'
          · rw [if_neg hc] at K'; rw [ex1]; exact K'
      · refine br_f hp (nm_r (nI_1 c) (ih (c + 1) k v (by omega) h2 (fun i hi => by have := h3 i hi; omega) (fun i h5 h6 => ?_) K))
        have a := h4 i h5 h6
        have b := k1 i h6
        have : kk i ≠ c := by
          intro z
          refine hp ((hpa c (by omega)).mpr ⟨by omega, ?_⟩)
          rw [← z]; exact b.2.2.1
        omega
theorem yw_aw {post : SY → Prop} {t m ow n : Nat} {par kx kk : Nat → Nat} (ht : t < 48) (hm : m ≤ 48) (em : gmd = nI m) (hpa : ∀ c, c < m → (ypa c = nI t ↔ 0 < c ∧ par c = t)) (KK : yw_K m t n par kx kk) (hyo : ∀ k, k < n → you (kk k) = if k < ow then 0 else 1) (K : post (gwc, grg, glm, gst, ggv, grp, gra, gmd, gtr, yvi, yli, yco, ypr, yar, ypa, yre, ybe, upd yck t (zl_mx (fun k => (yre (kk k), yck (kk k))) (yck t) ow (n - ow)), ynx, you, yfo, yrg, yce, ytp, ytl)) : wpY_await post (gwc, grg, glm, gst, ggv, grp, gra, gmd, gtr, yvi, yli, yco, ypr, yar, ypa, yre, ybe, yck, ynx, you, yfo, yrg, yce, ytp, ytl) (nI t) := by
  have ex : yw_x ow 0 = ow := by unfold yw_x; split <;> omega
  have L := yw_awl (post := post) ht hm em hpa KK hyo 48 0 0 (yck t) (by omega) (by omega) (fun i hi => by omega) (fun i _ _ => Nat.zero_le _) (by rw [ex]; exact K)
  rw [us_id] at L
  exact ⟨49, L⟩
theorem yw_fol {post : Int32 → SY → Prop} {J59 : Int32 → Int32 → Int32 → Int32 → Int32 → Int32 → Int32 → Int32 → Int32 → Int32 → Int32 → (Nat → Int32) → (Nat → Int32) → (Nat → Int32) → (Nat → Int32) → (Nat → Int32) → (Nat → Int32) → (Nat → Int32) → (Nat → Int32) → (Nat → Int32) → (Nat → Int32) → (Nat → Int32) → (Nat → Int32) → (Nat → Int32) → (Nat → Int32) → (Nat → Int32) → (Nat → Int32) → Prop} {x1 x2 x6 b : Int32} {t m ow n ra : Nat} {par kx kk : Nat → Nat} (hra : ra < 192) (hm : m ≤ 48) (em : gmd = nI m) (hpa : ∀ c, c < m → (ypa c = nI t ↔ 0 < c ∧ par c = t)) (KK : yw_K m t n par kx kk) : ∀ (d c k : Nat) (r : Int32) (yo yf : Nat → Int32), c + d = 48 → k ≤ n → (∀ i, i < k → kk i < c) → (∀ i, k ≤ i → i < n → c ≤ kk i) → (∀ i, k ≤ i → i < n → yo (kk i) = if i < ow then 0 else 1) → wY_settle_596 post J59 x1 x2 (nI t) x6 (nI ra) gwc grg glm gst ggv grp gra gmd gtr yvi yli yco ypr yar ypa yre ybe yck ynx (yw_o kk 0 (yw_x ow k) (n - yw_x ow k) yo) (yw_o kk 1 (yw_x ow k) (n - yw_x ow k) yf) (upd yrg ra (zl_fo (fun k => (yre (kk k), yck (kk k))) b r (yw_x ow k) (n - yw_x ow k))) yce ytp ytl → wY_settle_512 post J59 x1 x2 (nI t) x6 b (nI ra) gwc grg glm gst ggv grp gra gmd gtr (d + 1) (nI c) yvi yli yco ypr yar ypa yre ybe yck ynx yo yf (upd yrg ra r) yce ytp ytl := by
  obtain ⟨k1, k2, k3⟩ := KK
  intro d
  induction d with
  | zero =>
    intro c k r yo yf h1 h2 h3 h4 h5 K
    refine br_t (nI_le (a := 48) (by omega) (by omega)) ?_
    have kn : k = n := by
      rcases Nat.lt_or_ge k n with z | z
      · have := h4 k (Nat.le_refl _) z
        have := (k1 k z).2.1
        omega
      · omega
    have e : n - yw_x ow k = 0 := by unfold yw_x; split <;> omega
    rw [e] at K; exact K
  | succ d ih =>
    intro c k r yo yf h1 h2 h3 h4 h5 K
    have cc : (nI c).toNatClampNeg = c := nI_clamp (by omega)
    have cr : (nI ra).toNatClampNeg = ra := nI_clamp (by omega)
    have ic : vp_in (nI c) 48 := vp_in_nI (by omega) (by decide)
    have ir : vp_in (nI ra) 192 := vp_in_nI hra (by decide)
    unfold wY_settle_512
    simp only [cc, cr, us_s, us_us, vb0, vb1]
    refine br_f (nI_ge (b := 48) (by omega) (by decide)) ?_
    by_cases hcm : m ≤ c
    · refine br_t (by rw [em]; exact nI_le hcm (by omega)) (nm_r (nI_1 c) (ih (c + 1) k r yo yf (by omega) h2 (fun i hi => by have := h3 i hi; omega) (fun i h6 h7 => ?_) h5 K))
      have := h4 i h6 h7
      have := (k1 i h7).2.1
      omega
    · refine br_f (by rw [em]; exact nI_ge (by omega) (by omega)) ⟨ic, ?_⟩
      by_cases hp : ypa c = nI t
      · obtain ⟨p1, p2⟩ := (hpa c (by omega)).mp hp
        obtain ⟨q1, q2⟩ := k2 c p1 (by omega) p2
        have ek : kx c = k := by
          rcases Nat.lt_trichotomy (kx c) k with z | z | z
          · have := h3 _ z; omega
          · exact z
          · have := k3 k (kx c) z q1
            have := h4 k (Nat.le_refl _) (by omega)
            omega
        rw [ek] at q1 q2
        have up : ∀ i, i < k + 1 → kk i < c + 1 := fun i hi => by
          by_cases z : i = k
          · rw [z]; omega
          · have := h3 i (by omega); omega
        have dn : ∀ i, k + 1 ≤ i → i < n → c + 1 ≤ kk i := fun i h6 h7 => by have := k3 k i (by omega) h7; omega
        have yok := h5 k (Nat.le_refl _) q1
        rw [q2] at yok
        refine br_t hp ⟨ic, ?_⟩
        by_cases hl : k < ow
        · rw [if_pos hl] at yok
          refine br_t yok (nm_r (nI_1 c) (ih (c + 1) (k + 1) r yo yf (by omega) (by omega) up dn (fun i h6 h7 => h5 i (by omega) h7) ?_))
          have e : yw_x ow (k + 1) = yw_x ow k := by unfold yw_x; rw [if_pos hl]; split <;> omega
          rw [e]; exact K
        · rw [if_neg hl] at yok
          have ex : yw_x ow k = k := if_neg hl
          have ex1 : yw_x ow (k + 1) = k + 1 := if_neg (by omega)
          rw [ex, show n - k = (n - (k + 1)) + 1 by omega] at K
          have K' : wY_settle_596 post J59 x1 x2 (nI t) x6 (nI ra) gwc grg glm gst ggv grp gra gmd gtr yvi yli yco ypr yar ypa yre ybe yck ynx (yw_o kk 0 (k + 1) (n - (k + 1)) (upd yo (kk k) 0)) (yw_o kk 1 (k + 1) (n - (k + 1)) (upd yf (kk k) 1)) (upd yrg ra (zl_fo (fun k => (yre (kk k), yck (kk k))) b (r * b + yre (kk k)) (k + 1) (n - (k + 1)))) yce ytp ytl := K
          rw [q2] at K'
          refine br_f (by rw [yok]; decide) ⟨ir, ⟨ic, ⟨ir, nm_e ⟨ic, nm_e ⟨ic, nm_e (nm_r (nI_1 c) (ih (c + 1) (k + 1) _ _ _ (by omega) (by omega) up dn (fun i h6 h7 => ?_) ?_))⟩⟩⟩⟩⟩
          · have := k3 k i (by omega) h7
            rw [us_n (by omega)]; exact h5 i (by omega) h7
          · rw [ex1]; exact K'
      · refine br_f hp (nm_r (nI_1 c) (ih (c + 1) k r yo yf (by omega) h2 (fun i hi => by have := h3 i hi; omega) (fun i h6 h7 => ?_) h5 K))
        have a := h4 i h6 h7
        have bb := k1 i h7
        have : kk i ≠ c := by
          intro z
          refine hp ((hpa c (by omega)).mpr ⟨by omega, ?_⟩)
          rw [← z]; exact bb.2.2.1
        omega
/-! the lines: x1 cur, x2 step, x3 me, x5 line, x6 op, x7 a, x8 b, x9 ra, x10 valueB -/
theorem yl_comp {post : Int32 → SY → Prop} {J59 : Int32 → Int32 → Int32 → Int32 → Int32 → Int32 → Int32 → Int32 → Int32 → Int32 → Int32 → (Nat → Int32) → (Nat → Int32) → (Nat → Int32) → (Nat → Int32) → (Nat → Int32) → (Nat → Int32) → (Nat → Int32) → (Nat → Int32) → (Nat → Int32) → (Nat → Int32) → (Nat → Int32) → (Nat → Int32) → (Nat → Int32) → (Nat → Int32) → (Nat → Int32) → (Nat → Int32) → Prop} {x1 x2 x3 x5 x7 x8 x9 x10 : Int32} {j : Nat} (hj : j ≤ 5) (i3 : vp_in x3 48) (i9 : vp_in x9 192) (K : J59 x1 (x2 + 1) gwc grg glm gst ggv grp gra gmd gtr yvi yli yco ypr yar ypa yre ybe (upd yck x3.toNatClampNeg (yck x3.toNatClampNeg + 1)) ynx you yfo (upd yrg x9.toNatClampNeg (zl_cv (nI j) (yrg x9.toNatClampNeg) x10 x8)) yce ytp ytl) : wY_settle_239 post J59 x1 x2 x3 x5 (nI j) x7 x8 x9 x10 gwc grg glm gst ggv grp gra gmd gtr yvi yli yco ypr yar ypa yre ybe yck ynx you yfo yrg yce ytp ytl := by
  have jc : j = 0 ∨ j = 1 ∨ j = 2 ∨ j = 3 ∨ j = 4 ∨ j = 5 := by omega
  rcases jc with rfl | rfl | rfl | rfl | rfl | rfl
  · exact ⟨i3, ⟨i3, nm_e (br_t rfl ⟨i9, nm_e (br_f (by decide) (br_f (by decide) (br_f (by decide) (br_f (by decide) (br_f (by decide) (br_f (by decide) (br_f (by decide) (br_f (by decide) (br_f (by decide) (br_f (by decide) (br_f (by decide) (nm_e K))))))))))))⟩)⟩⟩
  · exact ⟨i3, ⟨i3, nm_e (br_f (by decide) (br_t rfl ⟨i9, nm_e (br_f (by decide) (br_f (by decide) (br_f (by decide) (br_f (by decide) (br_f (by decide) (br_f (by decide) (br_f (by decide) (br_f (by decide) (br_f (by decide) (br_f (by decide) (nm_e K)))))))))))⟩))⟩⟩
  · exact ⟨i3, ⟨i3, nm_e (br_f (by decide) (br_f (by decide) (br_t rfl ⟨i9, ⟨i9, nm_e (br_f (by decide) (br_f (by decide) (br_f (by decide) (br_f (by decide) (br_f (by decide) (br_f (by decide) (br_f (by decide) (br_f (by decide) (br_f (by decide) (nm_e K))))))))))⟩⟩)))⟩⟩
  · exact ⟨i3, ⟨i3, nm_e (br_f (by decide) (br_f (by decide) (br_f (by decide) (br_t rfl ⟨i9, ⟨i9, nm_e (br_f (by decide) (br_f (by decide) (br_f (by decide) (br_f (by decide) (br_f (by decide) (br_f (by decide) (br_f (by decide) (br_f (by decide) (nm_e K)))))))))⟩⟩))))⟩⟩
  · exact ⟨i3, ⟨i3, nm_e (br_f (by decide) (br_f (by decide) (br_f (by decide) (br_f (by decide) (br_t rfl ⟨i9, ⟨i9, nm_e (br_f (by decide) (br_f (by decide) (br_f (by decide) (br_f (by decide) (br_f (by decide) (br_f (by decide) (br_f (by decide) (nm_e K))))))))⟩⟩)))))⟩⟩
  · exact ⟨i3, ⟨i3, nm_e (br_f (by decide) (br_f (by decide) (br_f (by decide) (br_f (by decide) (br_f (by decide) (br_t rfl ⟨i9, ⟨i9, nm_e (br_f (by decide) (br_f (by decide) (br_f (by decide) (br_f (by decide) (br_f (by decide) (br_f (by decide) (nm_e K)))))))⟩⟩))))))⟩⟩
theorem yl_test {post : Int32 → SY → Prop} {J59 : Int32 → Int32 → Int32 → Int32 → Int32 → Int32 → Int32 → Int32 → Int32 → Int32 → Int32 → (Nat → Int32) → (Nat → Int32) → (Nat → Int32) → (Nat → Int32) → (Nat → Int32) → (Nat → Int32) → (Nat → Int32) → (Nat → Int32) → (Nat → Int32) → (Nat → Int32) → (Nat → Int32) → (Nat → Int32) → (Nat → Int32) → (Nat → Int32) → (Nat → Int32) → (Nat → Int32) → Prop} {x1 x2 x3 x5 x6 x7 x8 x9 x10 : Int32} (h6 : x6 = 6 ∨ x6 = 7) (i3 : vp_in x3 48) (i9 : vp_in x9 192) (K1 : ((x6 = 6 ∧ yrg x9.toNatClampNeg < x8) ∨ (x6 = 7 ∧ yrg x9.toNatClampNeg = x8)) → J59 x1 (x2 + 1) gwc grg glm gst ggv grp gra gmd gtr yvi yli yco ypr yar ypa yre ybe (upd yck x3.toNatClampNeg (yck x3.toNatClampNeg + 1)) ynx you yfo yrg yce ytp ytl) (K2 : ¬ ((x6 = 6 ∧ yrg x9.toNatClampNeg < x8) ∨ (x6 = 7 ∧ yrg x9.toNatClampNeg = x8)) → J59 x1 (x2 + 1) gwc grg glm gst ggv grp gra gmd gtr yvi yli yco ypr yar ypa yre ybe (upd yck x3.toNatClampNeg (yck x3.toNatClampNeg + 1)) (upd ynx x3.toNatClampNeg (x5 + 2)) you yfo yrg yce ytp ytl) : wY_settle_239 post J59 x1 x2 x3 x5 x6 x7 x8 x9 x10 gwc grg glm gst ggv grp gra gmd gtr yvi yli yco ypr yar ypa yre ybe yck ynx you yfo yrg yce ytp ytl := by
  rcases h6 with rfl | rfl
  · refine ⟨i3, ⟨i3, nm_e (br_f (by decide) (br_f (by decide) (br_f (by decide) (br_f (by decide) (br_f (by decide) (br_f (by decide) (br_t rfl ⟨i9, br_c (fun h => br_f (by decide) (br_f (by decide) (br_f (by decide) (br_f (by decide) (br_f (by decide) (nm_e (K1 (Or.inl ⟨rfl, h⟩)))))))) (fun h => ⟨i3, nm_e (br_f (by decide) (br_f (by decide) (br_f (by decide) (br_f (by decide) (br_f (by decide) (nm_e (K2 ?_)))))))⟩)⟩)))))))⟩⟩
    rintro (⟨_, z⟩ | ⟨z, _⟩)
    · exact h z
    · exact absurd z (by decide)
  · refine ⟨i3, ⟨i3, nm_e (br_f (by decide) (br_f (by decide) (br_f (by decide) (br_f (by decide) (br_f (by decide) (br_f (by decide) (br_f (by decide) (br_t rfl ⟨i9, br_c (fun h => br_f (by decide) (br_f (by decide) (br_f (by decide) (br_f (by decide) (nm_e (K1 (Or.inr ⟨rfl, h⟩))))))) (fun h => ⟨i3, nm_e (br_f (by decide) (br_f (by decide) (br_f (by decide) (br_f (by decide) (nm_e (K2 ?_))))))⟩)⟩))))))))⟩⟩
    rintro (⟨z, _⟩ | ⟨_, z⟩)
    · exact absurd z (by decide)
    · exact h z
theorem yl_tally {post : Int32 → SY → Prop} {J59 : Int32 → Int32 → Int32 → Int32 → Int32 → Int32 → Int32 → Int32 → Int32 → Int32 → Int32 → (Nat → Int32) → (Nat → Int32) → (Nat → Int32) → (Nat → Int32) → (Nat → Int32) → (Nat → Int32) → (Nat → Int32) → (Nat → Int32) → (Nat → Int32) → (Nat → Int32) → (Nat → Int32) → (Nat → Int32) → (Nat → Int32) → (Nat → Int32) → (Nat → Int32) → (Nat → Int32) → Prop} {x1 x2 x3 x5 x7 x8 x9 x10 : Int32} (i3 : vp_in x3 48) (i7 : vp_in x7 4) (K : J59 x1 (x2 + 1) gwc grg glm gst ggv grp gra gmd gtr yvi yli yco ypr yar ypa yre ybe (upd yck x3.toNatClampNeg (yck x3.toNatClampNeg + 1)) ynx you yfo yrg (upd yce x7.toNatClampNeg (yce x7.toNatClampNeg + x10)) ytp ytl) : wY_settle_239 post J59 x1 x2 x3 x5 10 x7 x8 x9 x10 gwc grg glm gst ggv grp gra gmd gtr yvi yli yco ypr yar ypa yre ybe yck ynx you yfo yrg yce ytp ytl :=
  ⟨i3, ⟨i3, nm_e (br_f (by decide) (br_f (by decide) (br_f (by decide) (br_f (by decide) (br_f (by decide) (br_f (by decide) (br_f (by decide) (br_f (by decide) (br_t rfl ⟨i7, ⟨i7, nm_e (br_f (by decide) (br_f (by decide) (br_f (by decide) (nm_e K))))⟩⟩)))))))))⟩⟩
theorem yl_ret {post : Int32 → SY → Prop} {J59 : Int32 → Int32 → Int32 → Int32 → Int32 → Int32 → Int32 → Int32 → Int32 → Int32 → Int32 → (Nat → Int32) → (Nat → Int32) → (Nat → Int32) → (Nat → Int32) → (Nat → Int32) → (Nat → Int32) → (Nat → Int32) → (Nat → Int32) → (Nat → Int32) → (Nat → Int32) → (Nat → Int32) → (Nat → Int32) → (Nat → Int32) → (Nat → Int32) → (Nat → Int32) → (Nat → Int32) → Prop} {x1 x2 x3 x5 x7 x8 x9 x10 : Int32} (i3 : vp_in x3 48) (i9 : vp_in x9 192) (K : J59 (ypa x3.toNatClampNeg) (x2 + 1) gwc grg glm gst ggv grp gra gmd gtr yvi yli yco ypr yar ypa (upd yre x3.toNatClampNeg (yrg x9.toNatClampNeg)) ybe (upd yck x3.toNatClampNeg (yck x3.toNatClampNeg + 1)) ynx you yfo yrg yce ytp ytl) : wY_settle_239 post J59 x1 x2 x3 x5 11 x7 x8 x9 x10 gwc grg glm gst ggv grp gra gmd gtr yvi yli yco ypr yar ypa yre ybe yck ynx you yfo yrg yce ytp ytl :=
  ⟨i3, ⟨i3, nm_e (br_f (by decide) (br_f (by decide) (br_f (by decide) (br_f (by decide) (br_f (by decide) (br_f (by decide) (br_f (by decide) (br_f (by decide) (br_f (by decide) (br_f (by decide) (br_f (by decide) (br_t rfl ⟨i9, ⟨i3, nm_e ⟨i3, nm_e (nm_e K)⟩⟩⟩))))))))))))⟩⟩
theorem yl_fail {post : Int32 → SY → Prop} {J59 : Int32 → Int32 → Int32 → Int32 → Int32 → Int32 → Int32 → Int32 → Int32 → Int32 → Int32 → (Nat → Int32) → (Nat → Int32) → (Nat → Int32) → (Nat → Int32) → (Nat → Int32) → (Nat → Int32) → (Nat → Int32) → (Nat → Int32) → (Nat → Int32) → (Nat → Int32) → (Nat → Int32) → (Nat → Int32) → (Nat → Int32) → (Nat → Int32) → (Nat → Int32) → (Nat → Int32) → Prop} {x1 x2 x3 x5 x7 x8 x9 x10 : Int32} (i3 : vp_in x3 48) (hf : ¬ gmd < glm) (K : post (-5) (gwc, grg, glm, 3, ggv, grp, gra, gmd, gtr, yvi, yli, yco, ypr, yar, ypa, yre, ybe, upd yck x3.toNatClampNeg (yck x3.toNatClampNeg + 1), ynx, you, yfo, yrg, yce, ytp, ytl)) : wY_settle_239 post J59 x1 x2 x3 x5 8 x7 x8 x9 x10 gwc grg glm gst ggv grp gra gmd gtr yvi yli yco ypr yar ypa yre ybe yck ynx you yfo yrg yce ytp ytl :=
  ⟨i3, ⟨i3, nm_e (br_f (by decide) (br_f (by decide) (br_f (by decide) (br_f (by decide) (br_f (by decide) (br_f (by decide) (br_f (by decide) (br_f (by decide) (br_f (by decide) (br_t rfl (br_f hf K)))))))))))⟩⟩
theorem yl_spawn {post : Int32 → SY → Prop} {J59 : Int32 → Int32 → Int32 → Int32 → Int32 → Int32 → Int32 → Int32 → Int32 → Int32 → Int32 → (Nat → Int32) → (Nat → Int32) → (Nat → Int32) → (Nat → Int32) → (Nat → Int32) → (Nat → Int32) → (Nat → Int32) → (Nat → Int32) → (Nat → Int32) → (Nat → Int32) → (Nat → Int32) → (Nat → Int32) → (Nat → Int32) → (Nat → Int32) → (Nat → Int32) → (Nat → Int32) → Prop} {x1 x2 x3 x5 x7 x8 x9 x10 : Int32} {m : Nat} (i3 : vp_in x3 48) (hf : gmd < glm) (hm : m < 48) (em : gmd = nI m) (K : J59 gmd (x2 + 1) gwc grg glm gst ggv grp gra (nI (m + 1)) gtr yvi yli yco (upd ypr m x7) (upd yar m x10) (upd ypa m x3) (upd yre m 0) (upd ybe m (upd yck x3.toNatClampNeg (yck x3.toNatClampNeg + 1) x3.toNatClampNeg)) (upd (upd yck x3.toNatClampNeg (yck x3.toNatClampNeg + 1)) m (upd yck x3.toNatClampNeg (yck x3.toNatClampNeg + 1) x3.toNatClampNeg)) (upd ynx m 0) (upd you m 1) (upd yfo m 0) (upd (upd (upd (upd (upd yrg (4 * m) 0) (4 * m + 1) 0) (4 * m + 2) 0) (4 * m + 3) 0) (4 * m) x10) yce ytp ytl) : wY_settle_239 post J59 x1 x2 x3 x5 8 x7 x8 x9 x10 gwc grg glm gst ggv grp gra gmd gtr yvi yli yco ypr yar ypa yre ybe yck ynx you yfo yrg yce ytp ytl :=
  ⟨i3, ⟨i3, nm_e (br_f (by decide) (br_f (by decide) (br_f (by decide) (br_f (by decide) (br_f (by decide) (br_f (by decide) (br_f (by decide) (br_f (by decide) (br_f (by decide) (br_t rfl (br_t hf ⟨i3, yw_make hm em (br_f (by decide) (br_f (by decide) (nm_e K)))⟩)))))))))))⟩⟩
theorem yl_sync {post : Int32 → SY → Prop} {J59 : Int32 → Int32 → Int32 → Int32 → Int32 → Int32 → Int32 → Int32 → Int32 → Int32 → Int32 → (Nat → Int32) → (Nat → Int32) → (Nat → Int32) → (Nat → Int32) → (Nat → Int32) → (Nat → Int32) → (Nat → Int32) → (Nat → Int32) → (Nat → Int32) → (Nat → Int32) → (Nat → Int32) → (Nat → Int32) → (Nat → Int32) → (Nat → Int32) → (Nat → Int32) → (Nat → Int32) → Prop} {x1 x2 x5 x7 b x10 : Int32} {t m ow n ra : Nat} {par kx kk : Nat → Nat} (ht : t < 48) (hra : ra < 192) (hm : m ≤ 48) (em : gmd = nI m) (hpa : ∀ c, c < m → (ypa c = nI t ↔ 0 < c ∧ par c = t)) (KK : yw_K m t n par kx kk) (hyo : ∀ k, k < n → you (kk k) = if k < ow then 0 else 1) (K : J59 x1 (x2 + 1) gwc grg glm gst ggv grp gra gmd gtr yvi yli yco ypr yar ypa yre ybe (upd yck t (yck t + 1)) ynx (yw_o kk 0 ow (n - ow) you) (yw_o kk 1 ow (n - ow) yfo) (upd yrg ra (zl_fo (fun k => (yre (kk k), upd yck t (yck t + 1) (kk k))) b (yrg ra) ow (n - ow))) yce ytp ytl) : wY_settle_239 post J59 x1 x2 (nI t) x5 9 x7 b (nI ra) x10 gwc grg glm gst ggv grp gra gmd gtr yvi yli yco ypr yar ypa yre ybe yck ynx you yfo yrg yce ytp ytl := by
  have i3 : vp_in (nI t) 48 := vp_in_nI ht (by decide)
  have ct : (nI t).toNatClampNeg = t := nI_clamp (by omega)
  have ex : yw_x ow 0 = ow := by unfold yw_x; split <;> omega
  have L := yw_fol (post := post) (J59 := J59) (x1 := x1) (x2 := x2) (x6 := 9) (b := b) (ow := ow) (yck := upd yck t (yck t + 1)) hra hm em hpa KK 48 0 0 (yrg ra) you yfo (by omega) (by omega) (fun i hi => by omega) (fun i _ _ => Nat.zero_le _) (fun i _ hi => hyo i hi) (by rw [ex]; exact br_f (by decide) (nm_e K))
  rw [us_id] at L
  refine ⟨i3, ⟨i3, nm_e (br_f (by decide) (br_f (by decide) (br_f (by decide) (br_f (by decide) (br_f (by decide) (br_f (by decide) (br_f (by decide) (br_f (by decide) (br_f (by decide) (br_f (by decide) (br_t rfl ⟨49, ?_⟩)))))))))))⟩⟩
  rw [ct]; exact L
end
end
section
/-! the reference's loop: the head of a step -/
section
variable {gwc grg glm gst ggv grp gra gmd gtr : Int32} {yvi yli yco ypr yar ypa yre ybe yck ynx you yfo yrg yce ytp ytl : Nat → Int32}
/-- the program as the reference holds it -/
def yr_G (g : zl_G) (yli yco : Nat → Int32) : Prop := (∀ i, i < 40 → yli (3 * i) = g.1 i ∧ yli (3 * i + 1) = g.2.1 i ∧ yli (3 * i + 2) = g.2.2.1 i) ∧ (∀ p, p < 4 → yco p = nI (g.2.2.2 p))
theorem yr_lf {post : Int32 → Prop} {g : zl_G} (PG : zl_pg g) (Y : yr_G g yli yco) {pr pc f : Nat} (hp : pr < 4) (hc : pc < g.2.2.2 pr) (hf : f < 3) (K : post (yli (3 * (pr * 10 + pc) + f))) : wpY_lineField post (gwc, grg, glm, gst, ggv, grp, gra, gmd, gtr, yvi, yli, yco, ypr, yar, ypa, yre, ybe, yck, ynx, you, yfo, yrg, yce, ytp, ytl) (nI pr) (nI pc) (nI f) := by
  have h10 := (PG pr hp).1
  have cp : (nI pr).toNatClampNeg = pr := nI_clamp (by omega)
  have e : (nI pr * 10 + nI pc) * 3 + nI f = nI (3 * (pr * 10 + pc) + f) := by
    show (nI pr * nI 10 + nI pc) * nI 3 + nI f = _
    rw [pk_mul, nI_add, pk_mul, nI_add, Nat.mul_comm]
  have ce : (nI (3 * (pr * 10 + pc) + f)).toNatClampNeg = 3 * (pr * 10 + pc) + f := nI_clamp (by omega)
  unfold wpY_lineField
  simp only [e, cp, ce]
  refine br_f (nI_pos (by omega)) (br_t (nI_lt (b := 4) hp (by decide)) (br_f (nI_pos (by omega)) ⟨vp_in_nI hp (by decide), br_t ?_ (br_f (nI_pos (by omega)) (br_t (nI_le (b := 2) (by omega) (by decide)) ⟨vp_in_nI (by omega) (by decide), K⟩))⟩))
  rw [Y.2 pr hp]; exact nI_lt hc (by omega)
theorem nI_a3 : ∀ j, j < 4 → nI j &&& 3 = nI j := by decide
theorem yr_pre {post : Int32 → SY → Prop} {g : zl_G} (PG : zl_pg g) (Y : yr_G g yli yco) {n t step S : Nat} {l : zl_T} (ht : t < 48) (hst : step < 600) (hp : zl_pr l < 4) (he : ¬ zl_e g l) (e1 : ypr t = nI (zl_pr l)) (e2 : ynx t = nI (zl_pc l)) (hS : S < 480) (eS : gtr = nI S) (hrg : ∀ r, r < 4 → yrg (4 * t + r) = zl_rg l r)
    (K : ∀ v : Int32, ((zl_op g l = 1 ∨ zl_op g l = 2 ∨ zl_op g l = 3 ∨ zl_op g l = 4 ∨ zl_op g l = 8 ∨ zl_op g l = 10) → v = zl_rg l (zl_lr g l)) → (((zl_op g l = 9 ∨ zl_op g l = 11) → wY_settle_234 post (wY_settle_59 post n) (nI t) (nI step) (nI t) (nI (zl_pc l)) (zl_op g l) (nI (zl_la g l)) (zl_lb g l) (nI (4 * t + zl_la g l)) v gwc grg glm gst ggv grp gra gmd (nI (S + 1)) yvi yli yco ypr yar ypa yre ybe yck (upd ynx t (nI (zl_pc l + 1))) you yfo yrg yce (upd ytp S (nI (zl_pr l))) (upd ytl S (nI (zl_pc l)))) ∧ (¬ (zl_op g l = 9 ∨ zl_op g l = 11) → wY_settle_239 post (wY_settle_59 post n) (nI t) (nI step) (nI t) (nI (zl_pc l)) (zl_op g l) (nI (zl_la g l)) (zl_lb g l) (nI (4 * t + zl_la g l)) v gwc grg glm gst ggv grp gra gmd (nI (S + 1)) yvi yli yco ypr yar ypa yre ybe yck (upd ynx t (nI (zl_pc l + 1))) you yfo yrg yce (upd ytp S (nI (zl_pr l))) (upd ytl S (nI (zl_pc l)))))) : wY_settle_59 post (n + 1) (nI t) (nI step) gwc grg glm gst ggv grp gra gmd gtr yvi yli yco ypr yar ypa yre ybe yck ynx you yfo yrg yce ytp ytl := by
  obtain ⟨q1, q2, ⟨j, q3, q4⟩, ⟨q5, q6⟩, q7⟩ := zl_lin PG hp he
  have ct : (nI t).toNatClampNeg = t := nI_clamp (by omega)
  have cpr : (nI (zl_pr l)).toNatClampNeg = zl_pr l := nI_clamp (by omega)
  have cS : (nI S).toNatClampNeg = S := nI_clamp (by omega)
  have it : vp_in (nI t) 48 := vp_in_nI ht (by decide)
  have iS : vp_in gtr 480 := by rw [eS]; exact vp_in_nI hS (by decide)
  have he2 := he
  unfold zl_e at he2
  have hc : zl_pc l < g.2.2.2 (zl_pr l) := by omega
  obtain ⟨y0, y1, y2⟩ := Y.1 (zl_at l) q2
  obtain ⟨jb, hjb, ejb⟩ := vp_in_of (tn_in (zl_lb g l)) (by decide)
  have eb : nI t * 4 + (zl_lb g l &&& 3) = nI (4 * t + jb) := by
    rw [ejb]
    show nI t * nI 4 + nI jb = _
    rw [pk_mul, nI_add, Nat.mul_comm]
  have cb : (nI (4 * t + jb)).toNatClampNeg = 4 * t + jb := nI_clamp (by omega)
  have ea : nI t * 4 + nI (zl_la g l) = nI (4 * t + zl_la g l) := by
    show nI t * nI 4 + nI (zl_la g l) = _
    rw [pk_mul, nI_add, Nat.mul_comm]
  have kv := K (yrg (4 * t + jb)) (fun z => by
    obtain ⟨z1, z2⟩ := q7 z
    have : jb = zl_lr g l := by
      have z3 : zl_lb g l = nI (zl_lr g l) := z1
      rw [z3, nI_a3 _ z2] at ejb
      exact ((nI_eq (by omega) (by omega)).mp ejb).symm
    rw [this]; exact hrg _ z2)
  unfold wY_settle_59
  rw [ct]
  refine br_f (nI_ge (b := 600) hst (by decide)) (br_f (nI_pos (by omega)) ⟨it, nm_r e1 ⟨it, nm_r e2 ⟨vp_in_nI hp (by decide), ?_⟩⟩⟩)
  rw [cpr]
  refine br_t (by rw [Y.2 _ hp]; exact nI_lt hc (by have := (PG _ hp).1; omega)) ?_
  refine yr_lf (f := 0) PG Y hp hc (by decide) ?_
  rw [show yli (3 * (zl_pr l * 10 + zl_pc l) + 0) = zl_op g l from y0]
  refine yr_lf (f := 1) PG Y hp hc (by decide) ?_
  rw [show yli (3 * (zl_pr l * 10 + zl_pc l) + 1) = nI (zl_la g l) from y1.trans q5]
  refine yr_lf (f := 2) PG Y hp hc (by decide) ?_
  rw [show yli (3 * (zl_pr l * 10 + zl_pc l) + 2) = zl_lb g l from y2]
  refine nm_r ea ?_
  rw [eb, cb]
  refine ⟨vp_in_nI (by omega) (by decide), nm_e ⟨iS, nm_r (e' := upd ytp S (nI (zl_pr l))) (by rw [eS, cS]) ⟨iS, nm_r (e' := upd ytl S (nI (zl_pc l))) (by rw [eS, cS]) (nm_r (e' := nI (S + 1)) (by rw [eS, nI_1]) ⟨it, nm_r (e' := upd ynx t (nI (zl_pc l + 1))) (by rw [nI_1]) ?_⟩)⟩⟩⟩
  refine br_c (fun h9 => kv.1 (Or.inl h9)) (fun h9 => br_c (fun h11 => kv.1 (Or.inr h11)) (fun h11 => kv.2 ?_))
  rintro (z | z)
  · exact h9 z
  · exact h11 z
theorem yr_exit {post : Int32 → SY → Prop} {n : Nat} {x2 : Int32} (hn : 0 < n) (K : post 0 (gwc, grg, glm, 2, ggv, grp, gra, gmd, gtr, yvi, yli, yco, ypr, yar, ypa, yre, ybe, yck, ynx, you, yfo, yrg, yce, ytp, ytl)) : wY_settle_59 post n (-1) x2 gwc grg glm gst ggv grp gra gmd gtr yvi yli yco ypr yar ypa yre ybe yck ynx you yfo yrg yce ytp ytl := by
  obtain ⟨k, rfl⟩ : ∃ k, n = k + 1 := ⟨n - 1, by omega⟩
  exact br_c (fun _ => K) (fun _ => br_t (by decide) K)
end
end
section
/-! the reference's arrays when a child is made -/
section
variable {g : zl_G} {m : Nat} {st : Nat → zl_T} {par kx : Nat → Nat} {kid : Nat → Nat → Nat} {pm : Nat → zl_P} {gmd gtr : Int32} {ypr yar ypa yre ybe yck ynx you yfo yrg yce ytp ytl : Nat → Int32}
theorem yt_sp (G : zg_G g m st par kx kid pm) (T : yt_T m st par kx pm gmd gtr ypr yar ypa yre ybe yck ynx you yfo yrg yce ytp ytl) {t : Nat} (ht : t < m) (hp : zl_pr (st t) < 4) (hc : zl_pc (st t) < 10) (hd : zl_dn (st t) = false) (hs : zl_s g (st t)) (o0 : Nat → zl_O) {A : Int32} (hA : A = zl_rg (st t) (zl_lr g (st t))) {S : Nat} (hS : S = sn_s (fun t => zl_nl (st t)) m) :
    yt_T (m + 1) (fu (fu st t (zl_nx g o0 (st t))) m (zl_ini (zl_la g (st t), zl_rg (st t) (zl_lr g (st t)), zl_ck (st t) + 1))) (fu par m t) (fu kx m (zl_nk (st t))) (fu pm m (zl_la g (st t), zl_rg (st t) (zl_lr g (st t)), zl_ck (st t) + 1))
      (nI (m + 1)) (nI (S + 1)) (upd ypr m (nI (zl_la g (st t)))) (upd yar m A) (upd ypa m (nI t)) (upd yre m 0) (upd ybe m (upd yck t (yck t + 1) t)) (upd (upd yck t (yck t + 1)) m (upd yck t (yck t + 1) t)) (upd (upd ynx t (nI (zl_pc (st t) + 1))) m 0) (upd you m 1) (upd yfo m 0) (upd (upd (upd (upd (upd yrg (4 * m) 0) (4 * m + 1) 0) (4 * m + 2) 0) (4 * m + 3) 0) (4 * m) A) yce (upd ytp S (nI (zl_pr (st t)))) (upd ytl S (nI (zl_pc (st t)))) := by
  have TT := T
  obtain ⟨T1, T2, T3, T4, T5, T6, T7, T8, T9, T10, T11, T12, T13, T14, T15⟩ := T
  obtain ⟨G0, G1, G2, G3, G4⟩ := id G
  have ok := (zg_ok G ht).1
  rw [zl_x8 (o := o0) hd hs.1 hs.2]
  generalize ep : (zl_la g (st t), zl_rg (st t) (zl_lr g (st t)), zl_ck (st t) + 1) = p
  generalize el' : (zl_pr (st t), zl_pc (st t) + 1, zl_rg (st t), zl_ck (st t) + 1, zl_nk (st t) + 1, zl_ow (st t), zl_rs (st t), false, fu (zl_sp (st t)) (zl_nk (st t)) p, zl_tl (st t), zl_k (st t), zl_nl (st t) + 1) = l'
  have p1 : p.1 = zl_la g (st t) := by rw [← ep]
  have p2 : p.2.1 = A := by rw [← ep]; exact hA.symm
  have p3 : p.2.2 = zl_ck (st t) + 1 := by rw [← ep]
  have l1 : zl_pr l' = zl_pr (st t) := by rw [← el']; rfl
  have l2 : zl_pc l' = zl_pc (st t) + 1 := by rw [← el']; rfl
  have l3 : zl_rg l' = zl_rg (st t) := by rw [← el']; rfl
  have l4 : zl_ck l' = zl_ck (st t) + 1 := by rw [← el']; rfl
  have l6 : zl_ow l' = zl_ow (st t) := by rw [← el']; rfl
  have l7 : zl_rs l' = zl_rs (st t) := by rw [← el']; rfl
  have l9 : zl_tl l' = zl_tl (st t) := by rw [← el']; rfl
  have l10 : zl_cn l' = zl_k (st t) := by rw [← el']; rfl
  have l11 : zl_nl l' = zl_nl (st t) + 1 := by rw [← el']; rfl
  have tm : t ≠ m := by omega
  have Sm : fu (fu st t l') m (zl_ini p) m = zl_ini p := fu_s
  have St : fu (fu st t l') m (zl_ini p) t = l' := by rw [fu_n tm, fu_s]
  have So : ∀ i, i ≠ m → i ≠ t → fu (fu st t l') m (zl_ini p) i = st i := fun i a b => by rw [fu_n a, fu_n b]
  have Fs : ∀ F : zl_T → Nat, F (zl_ini p) = 0 → sn_s (fun i => F (fu (fu st t l') m (zl_ini p) i)) (m + 1) + F (st t) = sn_s (fun i => F (st i)) m + F l' := by
    intro F h0
    have a := sn_u (f := fun i => F (st i)) (t := t) (v := F l') ht
    have e : sn_s (fun i => F (fu (fu st t l') m (zl_ini p) i)) m = sn_s (fu (fun i => F (st i)) t (F l')) m := sn_c (fun i hi => by rw [fu_n (by omega)]; unfold fu; split <;> rfl)
    rw [sn_1, Sm, h0, e]; exact a
  have three : ∀ {x x' : Nat → Int32} {F : zl_T → Int32}, (∀ i, i < m → x i = F (st i)) → x' m = F (zl_ini p) → x' t = F l' → (∀ i, i ≠ m → i ≠ t → x' i = x i) → ∀ i, i < m + 1 → x' i = F (fu (fu st t l') m (zl_ini p) i) := by
    intro x x' F h1 h2 h3 h4 i hi
    by_cases q : i = m
    · subst q; rw [Sm]; exact h2
    · by_cases q2 : i = t
      · subst q2; rw [St]; exact h3
      · rw [So i q q2, h4 i q q2]; exact h1 i (by omega)
  have S1 := Fs zl_nl rfl
  rw [l11] at S1
  obtain ⟨tr1, tr2, tr3⟩ := yt_tr TT ht hp hc (S' := sn_s (fun i => zl_nl (fu (fu st t l') m (zl_ini p) i)) (m + 1)) (C' := fun i => sn_s (fun j => zl_cn (fu (fu st t l') m (zl_ini p) j) i) (m + 1)) (by omega) (fun i => by
    have a := Fs (fun l => zl_cn l i) rfl
    have e : zl_cn l' i = zl_cn (st t) i + (if i = zl_at (st t) then 1 else 0) := by
      rw [l10]; unfold zl_k fu; split
      · next h => rw [h]
      · rfl
    omega) hS
  have ows : ∀ i, 0 < i → i < m → zl_ow (fu (fu st t l') m (zl_ini p) (par i)) = zl_ow (st (par i)) := by
    intro i h1 h2
    have := (G1 i h1 h2).1
    by_cases q : par i = t
    · rw [q, St, l6]
    · rw [So _ (by omega) q]
  refine ⟨rfl, ?_, ?_, ?_, ?_, ?_, ?_, ?_, ?_, ?_, ?_, ?_, ?_, tr2, tr3⟩
  · rw [hS]; exact congrArg nI (by omega)
  · intro c hc
    rw [T3 c hc, si_1, Sm]
    have e : si_s (fun i => zl_tl (fu (fu st t l') m (zl_ini p) i) c) m = si_s (fun i => zl_tl (st i) c) m := si_c (fun i hi => by
      by_cases q2 : i = t
      · subst q2; rw [St, l9]
      · rw [So i (by omega) q2])
    rw [e]; exact (Int32.add_zero _).symm
  · refine three (F := fun l => nI (zl_pr l)) T4 ?_ ?_ ?_
    · rw [us_s]; show nI (zl_la g (st t)) = nI p.1; rw [p1]
    · rw [us_n tm, T4 t ht]; show _ = nI (zl_pr l'); rw [l1]
    · intro i a b; exact us_n a
  · intro i hi
    by_cases q : i = m
    · subst q; rw [us_s, fu_s, p2]
    · rw [us_n q, fu_n q]; exact T5 i (by omega)
  · intro i hi
    by_cases q : i = m
    · subst q; rw [us_s, fu_s, p3, us_s, T9 t ht]
    · rw [us_n q, fu_n q]; exact T6 i (by omega)
  · intro i hi
    by_cases q : i = m
    · subst q; rw [us_s, fu_s, if_neg (by omega)]
    · rw [us_n q, fu_n q]; exact T7 i (by omega)
  · refine three (F := fun l => zl_rs l) T8 ?_ ?_ ?_
    · rw [us_s]; rfl
    · rw [us_n tm, T8 t ht]; show _ = zl_rs l'; rw [l7]
    · intro i a b; rw [us_n a]
  · refine three (F := fun l => zl_ck l) T9 ?_ ?_ ?_
    · rw [us_s, us_s, T9 t ht]; show _ = p.2.2; rw [p3]
    · rw [us_n tm, us_s, T9 t ht]; show _ = zl_ck l'; rw [l4]
    · intro i a b; rw [us_n a, us_n b]
  · intro i hi d
    by_cases q : i = m
    · subst q; rw [Sm, us_s]; rfl
    · by_cases q2 : i = t
      · subst q2; rw [St, us_n q, us_s, l2]
      · rw [So i q q2] at d ⊢
        rw [us_n q, us_n q2]; exact T10 i (by omega) d
  · intro i hi
    by_cases q : i = m
    · subst q; rw [us_s, fu_s, fu_s, St, l6, if_neg (by omega)]
    · rw [us_n q, fu_n q, fu_n q, T11 i (by omega)]
      by_cases z : 0 < i
      · rw [ows i z (by omega)]
      · rw [if_neg (fun y => z y.1), if_neg (fun y => z y.1)]
  · intro i hi
    by_cases q : i = m
    · subst q; rw [us_s, fu_s, fu_s, St, l6, if_neg (by omega)]
    · rw [us_n q, fu_n q, fu_n q, T12 i (by omega)]
      by_cases z : 0 < i
      · rw [ows i z (by omega)]
      · rw [if_neg (fun y => z y.1), if_neg (fun y => z y.1)]
  · intro i r hi hr
    by_cases q : i = m
    · subst q
      rw [Sm]
      show _ = fu (fun _ => 0) 0 p.2.1 r
      have rc : r = 0 ∨ r = 1 ∨ r = 2 ∨ r = 3 := by omega
      rcases rc with rfl | rfl | rfl | rfl
      · exact (us_s (k := 4 * i) (x := A)).trans (by rw [fu_s, p2])
      · rw [us_n (by omega), us_n (by omega), us_n (by omega), us_s, fu_n (by decide)]
      · rw [us_n (by omega), us_n (by omega), us_s, fu_n (by decide)]
      · rw [us_n (by omega), us_s, fu_n (by decide)]
    · rw [us_n (by omega), us_n (by omega), us_n (by omega), us_n (by omega), us_n (by omega), T13 i r (by omega) hr]
      by_cases q2 : i = t
      · subst q2; rw [St, l3]
      · rw [So i q q2]
end
end
section
/-! the reference's serial run -/
section
def yr_T (g : zl_G) (lim : Nat) (p : zl_P) (m : Nat) (st : Nat → zl_T) (par kx : Nat → Nat) (kid : Nat → Nat → Nat) (pm : Nat → zl_P) (gmd gtr : Int32) (ypr yar ypa yre ybe yck ynx you yfo yrg yce ytp ytl : Nat → Int32) : Prop :=
  m ≤ lim ∧ pm 0 = p ∧ (∀ t, t < m → (pm t).1 < 4) ∧ zg_G g m st par kx kid pm ∧ yt_T m st par kx pm gmd gtr ypr yar ypa yre ybe yck ynx you yfo yrg yce ytp ytl ∧ ys_F m st par kx
def yr_P (lim m : Nat) (st : Nat → zl_T) : Nat := sn_s (fun t => zl_rem (st t)) m + (lim - m) * 12
theorem yr_Pu {lim m : Nat} {st : Nat → zl_T} {t : Nat} {l' : zl_T} (ht : t < m) (h : zl_rem l' + 1 ≤ zl_rem (st t)) : yr_P lim m (fu st t l') < yr_P lim m st := by
  unfold yr_P
  have a := yt_S (st := st) (l' := l') ht zl_rem
  omega
theorem yr_Ps {lim m : Nat} {st : Nat → zl_T} {t : Nat} {l' : zl_T} {p : zl_P} (ht : t < m) (hl : m < lim) (h : zl_rem l' + 1 ≤ zl_rem (st t)) : yr_P lim (m + 1) (fu (fu st t l') m (zl_ini p)) < yr_P lim m st := by
  unfold yr_P
  have a := sn_u (f := fun t => zl_rem (st t)) (t := t) (v := zl_rem l') ht
  have e : sn_s (fun i => zl_rem (fu (fu st t l') m (zl_ini p) i)) m = sn_s (fu (fun t => zl_rem (st t)) t (zl_rem l')) m := sn_c (fun i hi => by rw [fu_n (by omega)]; unfold fu; split <;> rfl)
  rw [sn_1, e, fu_s, show zl_rem (zl_ini p) = 12 from rfl]
  have b : (lim - m) * 12 = (lim - (m + 1)) * 12 + 12 := by
    rw [show lim - m = (lim - (m + 1)) + 1 by omega, Nat.succ_mul]
  omega
theorem yr_nl {m : Nat} {st : Nat → zl_T} {t : Nat} (hm : m ≤ 48) (ht : t < m) (hb : ∀ i, i < m → zl_nl (st i) ≤ 10) (h9 : zl_nl (st t) ≤ 9) : sn_s (fun t => zl_nl (st t)) m < 480 := by
  have a := sn_u (f := fun t => zl_nl (st t)) (t := t) (v := 10) ht
  have b := sn_b (f := fu (fun t => zl_nl (st t)) t 10) (c := 10) (n := m) (fun i hi => by
    by_cases q : i = t
    · subst q; rw [fu_s]; omega
    · rw [fu_n q]; exact hb i hi)
  omega
variable {post : Int32 → SY → Prop} {g : zl_G} {lim : Nat} {p : zl_P} {gwc grg glm gst ggv grp gra : Int32} {yvi yli yco : Nat → Int32}
theorem yr_main (PG : zl_pg g) (Y : yr_G g yli yco) (hlim : lim ≤ 48) (elm : glm = nI lim)
    (finF : ∀ (m : Nat) (st : Nat → zl_T) (par kx : Nat → Nat) (kid : Nat → Nat → Nat) (pm : Nat → zl_P) (t : Nat) (gmd gtr : Int32) (ypr yar ypa yre ybe yck ynx you yfo yrg yce ytp ytl : Nat → Int32), m = lim → pm 0 = p → zg_G g m st par kx kid pm → t < m → zl_dn (st t) = false → zl_s g (st t) → post (-5) (gwc, grg, glm, 3, ggv, grp, gra, gmd, gtr, yvi, yli, yco, ypr, yar, ypa, yre, ybe, yck, ynx, you, yfo, yrg, yce, ytp, ytl))
    (finD : ∀ (m : Nat) (st : Nat → zl_T) (par kx : Nat → Nat) (kid : Nat → Nat → Nat) (pm : Nat → zl_P) (gmd gtr : Int32) (ypr yar ypa yre ybe yck ynx you yfo yrg yce ytp ytl : Nat → Int32), yr_T g lim p m st par kx kid pm gmd gtr ypr yar ypa yre ybe yck ynx you yfo yrg yce ytp ytl → (∀ t, t < m → zl_dn (st t) = true) → post 0 (gwc, grg, glm, 2, ggv, grp, gra, gmd, gtr, yvi, yli, yco, ypr, yar, ypa, yre, ybe, yck, ynx, you, yfo, yrg, yce, ytp, ytl)) :
    ∀ (N step m : Nat) (st : Nat → zl_T) (par kx : Nat → Nat) (kid : Nat → Nat → Nat) (pm : Nat → zl_P) (t : Nat) (gmd gtr : Int32) (ypr yar ypa yre ybe yck ynx you yfo yrg yce ytp ytl : Nat → Int32), yr_P lim m st < N → step + yr_P lim m st ≤ 599 → yr_T g lim p m st par kx kid pm gmd gtr ypr yar ypa yre ybe yck ynx you yfo yrg yce ytp ytl → ys_I m st par kx kid t → wY_settle_59 post N (nI t) (nI step) gwc grg glm gst ggv grp gra gmd gtr yvi yli yco ypr yar ypa yre ybe yck ynx you yfo yrg yce ytp ytl := by
  intro N
  induction N with
  | zero => intro step m st par kx kid pm t gmd gtr ypr yar ypa yre ybe yck ynx you yfo yrg yce ytp ytl h; omega
  | succ N ih =>
    intro step m st par kx kid pm t gmd gtr ypr yar ypa yre ybe yck ynx you yfo yrg yce ytp ytl hN hst R I
    obtain ⟨R1, R2, R3, R4, R5, R6⟩ := R
    have hT := I.1
    have nd := I.2.1
    have kdn := I.2.2.2.1
    have ok := zg_ok R4 hT
    have pr4 : zl_pr (st t) < 4 := by rw [ok.2]; exact R3 t hT
    have bd := zg_b PG R4 R3 hT
    obtain ⟨T1, T2, T3, T4, T5, T6, T7, T8, T9, T10, T11, T12, T13, T14, T15⟩ := id R5
    have ct : (nI t).toNatClampNeg = t := nI_clamp (by omega)
    have it : vp_in (nI t) 48 := vp_in_nI (by omega) (by decide)
    have nb := zl_nxb PG (zg_o st kid t) pr4 nd bd
    have remp : 1 ≤ zl_rem (st t) := by have := nb.2.1; omega
    have Pp : 1 ≤ yr_P lim m st := by
      unfold yr_P
      have := sn_g (f := fun t => zl_rem (st t)) hT
      omega
    have hpa : ∀ c, c < m → (ypa c = nI t ↔ 0 < c ∧ par c = t) := by
      intro c hc
      rw [T7 c hc]
      by_cases q : c = 0
      · rw [if_pos q]
        refine ⟨fun z => ?_, fun z => by omega⟩
        have z2 : (-1 : Int32) < 0 := by decide
        rw [z] at z2
        exact absurd z2 (nI_pos (by omega))
      · rw [if_neg q]
        have := (R4.2.1 c (by omega) hc).1
        rw [nI_eq (by omega) (by omega)]
        exact ⟨fun z => ⟨by omega, z⟩, fun z => z.2⟩
    have k3 : ∀ i j, i < j → j < zl_nk (st t) → kid t i < kid t j := by
      intro i j h1
      obtain ⟨d, rfl⟩ := Nat.le.dest h1
      clear h1
      induction d with
      | zero => intro h2; exact R4.2.2.2.1 t i hT h2
      | succ d ihd =>
        intro h2
        have a := ihd (by omega)
        have b := R4.2.2.2.1 t (i + 1 + d) hT (by omega)
        rw [show i.succ + (d + 1) = i + 1 + d + 1 by omega]
        have a' : kid t i < kid t (i + 1 + d) := a
        omega
    have KK : yw_K m t (zl_nk (st t)) par kx (kid t) := by
      refine ⟨fun k hk => ?_, fun c h1 h2 h3 => ?_, k3⟩
      · obtain ⟨x1, x2, x3, x4, x5⟩ := R4.2.2.1 t k hT hk
        exact ⟨x1, x2, x3, x4⟩
      · obtain ⟨x1, x2, x3⟩ := R4.2.1 c h1 h2
        rw [h3] at x2 x3
        exact ⟨x2, x3⟩
    have hyo : ∀ k, k < zl_nk (st t) → you (kid t k) = if k < zl_ow (st t) then 0 else 1 := by
      intro k hk
      obtain ⟨x1, x2, x3, x4, x5⟩ := R4.2.2.1 t k hT hk
      rw [T11 _ x2, x3, x4]
      by_cases q : k < zl_ow (st t)
      · rw [if_pos ⟨by omega, q⟩, if_pos q]
      · rw [if_neg (fun z => q z.2), if_neg q]
    have hyf : ∀ k, k < zl_nk (st t) → yfo (kid t k) = if k < zl_ow (st t) then 1 else 0 := by
      intro k hk
      obtain ⟨x1, x2, x3, x4, x5⟩ := R4.2.2.1 t k hT hk
      rw [T12 _ x2, x3, x4]
      by_cases q : k < zl_ow (st t)
      · rw [if_pos ⟨by omega, q⟩, if_pos q]
      · rw [if_neg (fun z => q z.2), if_neg q]
    have omx : ∀ c, zl_mx (fun k => (yre (kid t k), yck (kid t k))) c (zl_ow (st t)) (zl_nk (st t) - zl_ow (st t)) = zl_mx (zg_o st kid t) c (zl_ow (st t)) (zl_nk (st t) - zl_ow (st t)) := fun c => zl_mxc1 (fun k h1 h2 => by
      have x2 := (R4.2.2.1 t k hT (by omega)).2.1
      exact T9 _ x2)
    -- the task ends
    have fine : ∀ (gtr' : Int32) (yre' yck' ynx' ytp' ytl' : Nat → Int32), ¬ zl_s g (st t) → zl_dn (zl_nx g (zg_o st kid t) (st t)) = true → yt_T m (fu st t (zl_nx g (zg_o st kid t) (st t))) par kx pm gmd gtr' ypr yar ypa yre' ybe yck' ynx' you yfo yrg yce ytp' ytl' → wY_settle_59 post N (ypa t) (nI step + 1) gwc grg glm gst ggv grp gra gmd gtr' yvi yli yco ypr yar ypa yre' ybe yck' ynx' you yfo yrg yce ytp' ytl' := by
      intro gtr' yre' yck' ynx' ytp' ytl' hs dl T'
      have G' := zg_1 R4 hT nd hs (fun _ k _ hk => kdn k hk)
      have lt := yr_Pu (lim := lim) hT nb.2.1
      have F' : ys_F m (fu st t (zl_nx g (zg_o st kid t) (st t))) par kx := ys_F1 R4 R6 nd
      have enk : zl_nk (zl_nx g (zg_o st kid t) (st t)) = zl_nk (st t) := (zl_n1 g (zg_o st kid t) (st t) nd).2.2.1 hs
      rw [nI_1, T7 t hT]
      by_cases q : t = 0
      · rw [if_pos q]
        refine yr_exit (by omega) (finD m _ par kx kid pm _ _ _ _ _ _ _ _ _ _ _ _ _ _ _ ⟨R1, R2, R3, G', T', F'⟩ (zg_all G' ?_))
        rw [← q, fu_s]; exact dl
      · rw [if_neg q]
        exact ih (step + 1) m _ par kx kid pm (par t) _ _ _ _ _ _ _ _ _ _ _ _ _ _ _ (by omega) (by omega) ⟨R1, R2, R3, G', T', F'⟩ (ys_en R4 I (by omega) enk dl)
    by_cases he : zl_e g (st t)
    · have el := zl_xe (g := g) (o := zg_o st kid t) nd he
      have he2 := he
      unfold zl_e at he2
      have hs : ¬ zl_s g (st t) := fun z => z.1 he
      have T' := yt_up R5 hT (l' := zl_nx g (zg_o st kid t) (st t)) (gtr' := gtr) (yce' := yce) (ytp' := ytp) (ytl' := ytl) (yrg' := yrg) (you' := you) (yfo' := yfo) (ynx' := ynx) (Vck := zl_mx (zg_o st kid t) (yck t) (zl_ow (st t)) (zl_nk (st t) - zl_ow (st t))) (Vre := 0)
        (by rw [el]; rfl) (by rw [el, T9 t hT]; rfl) (by rw [el]; rfl) (by rw [el]; exact fun z => absurd (show true = false from z) (by decide)) (fun _ _ => rfl) (by rw [el]; exact fun r hr => T13 t r hT hr) (fun _ _ _ _ => rfl) (by rw [el]; exact fun _ _ => rfl) (yt_ow (by rw [el]; rfl) T11) (yt_ow (by rw [el]; rfl) T12)
        (by
          have a := yt_S (st := st) (l' := zl_nx g (zg_o st kid t) (st t)) hT zl_nl
          rw [T2]; refine congrArg nI ?_
          have : zl_nl (zl_nx g (zg_o st kid t) (st t)) = zl_nl (st t) := by rw [el]; rfl
          omega)
        (by
          have a := yt_S (st := st) (l' := zl_nx g (zg_o st kid t) (st t)) hT zl_nl
          have e1 : zl_nl (zl_nx g (zg_o st kid t) (st t)) = zl_nl (st t) := by rw [el]; rfl
          intro q l hq hl
          have b := yt_S (st := st) (l' := zl_nx g (zg_o st kid t) (st t)) hT (fun z => zl_cn z (q * 10 + l))
          have e2 : zl_cn (zl_nx g (zg_o st kid t) (st t)) (q * 10 + l) = zl_cn (st t) (q * 10 + l) := by rw [el]; rfl
          have e3 := T14 q l hq hl
          rw [show sn_s (fun i => zl_nl (fu st t (zl_nx g (zg_o st kid t) (st t)) i)) m = sn_s (fun i => zl_nl (st i)) m by omega, e3]
          omega)
        (by
          have a := yt_S (st := st) (l' := zl_nx g (zg_o st kid t) (st t)) hT zl_nl
          have e1 : zl_nl (zl_nx g (zg_o st kid t) (st t)) = zl_nl (st t) := by rw [el]; rfl
          intro i hi
          exact T15 i (by omega))
      unfold wY_settle_59
      rw [ct]
      refine br_f (nI_ge (b := 600) (by omega) (by decide)) (br_f (nI_pos (by omega)) ⟨it, nm_r (T4 t hT) ⟨it, nm_r (T10 t hT nd) ⟨vp_in_nI pr4 (by decide), br_f ?_ (yw_aw (par := par) (kx := kx) (kk := kid t) (ow := zl_ow (st t)) (n := zl_nk (st t)) (by omega) (by omega) T1 hpa KK hyo ⟨it, nm_e ⟨it, nm_e (nm_e ?_)⟩⟩)⟩⟩⟩)
      · rw [nI_clamp (by omega), Y.2 _ pr4]
        have := bd.1
        exact nI_nlt (by omega) (by omega)
      · rw [omx]
        exact fine _ _ _ _ _ _ hs (by rw [el]; rfl) T'
    obtain ⟨q1, q2, ⟨j, q3, q4⟩, ⟨q5, q6⟩, q7⟩ := zl_lin PG pr4 he
    have nl9 : zl_nl (st t) ≤ 9 := by have := bd.2.2.1 nd; omega
    have S480 := yr_nl (st := st) (by omega) hT (fun i hi => (zg_b PG R4 R3 hi).2.1) nl9
    have rgt : ∀ r, r < 4 → yrg (4 * t + r) = zl_rg (st t) r := fun r hr => T13 t r hT hr
    have trc : ∀ (l' : zl_T), zl_nl l' = zl_nl (st t) + 1 → zl_cn l' = zl_k (st t) → nI (sn_s (fun t => zl_nl (st t)) m + 1) = nI (sn_s (fun i => zl_nl (fu st t l' i)) m) ∧ (∀ q l, q < 4 → l < 10 → sn_s (yt_c (upd ytp (sn_s (fun t => zl_nl (st t)) m) (nI (zl_pr (st t)))) (upd ytl (sn_s (fun t => zl_nl (st t)) m) (nI (zl_pc (st t)))) (nI q) (nI l)) (sn_s (fun i => zl_nl (fu st t l' i)) m) = sn_s (fun i => zl_cn (fu st t l' i) (q * 10 + l)) m) ∧ (∀ i, i < sn_s (fun i => zl_nl (fu st t l' i)) m → ∃ q l, q < 4 ∧ l < 10 ∧ upd ytp (sn_s (fun t => zl_nl (st t)) m) (nI (zl_pr (st t))) i = nI q ∧ upd ytl (sn_s (fun t => zl_nl (st t)) m) (nI (zl_pc (st t))) i = nI l) := by
      intro l' e1 e2
      have a := yt_S (st := st) (l' := l') hT zl_nl
      obtain ⟨x1, x2, x3⟩ := yt_tr R5 hT pr4 q1 (S' := sn_s (fun i => zl_nl (fu st t l' i)) m) (C' := fun i => sn_s (fun j => zl_cn (fu st t l' j) i) m) (by omega) (fun i => by
        have b := yt_S (st := st) (l' := l') hT (fun l => zl_cn l i)
        have e : zl_cn l' i = zl_cn (st t) i + (if i = zl_at (st t) then 1 else 0) := by
          rw [e2]; unfold zl_k fu; split
          · next h => rw [h]
          · rfl
        omega) rfl
      exact ⟨by rw [← x1, T2, nI_1], x2, x3⟩
    refine yr_pre PG Y (S := sn_s (fun t => zl_nl (st t)) m) (l := st t) (by omega) (by omega) pr4 he (T4 t hT) (T10 t hT nd) S480 T2 rgt ?_
    intro v hv
    have ra192 : 4 * t + zl_la g (st t) < 192 := by omega
    have cra : (nI (4 * t + zl_la g (st t))).toNatClampNeg = 4 * t + zl_la g (st t) := nI_clamp (by omega)
    have ira : vp_in (nI (4 * t + zl_la g (st t))) 192 := vp_in_nI ra192 (by decide)
    refine ⟨fun hwt => ?_, fun hnw => ?_⟩
    · -- SYNC, RET
      have hs : ¬ zl_s g (st t) := fun z => zl_sw z (Or.inr hwt)
      refine yw_aw (par := par) (kx := kx) (kk := kid t) (ow := zl_ow (st t)) (n := zl_nk (st t)) (by omega) (by omega) T1 hpa KK hyo ?_
      rw [omx]
      rcases hwt with h9 | h11
      · have el := zl_x9 (g := g) (o := zg_o st kid t) nd he h9
        rw [h9]
        refine yl_sync (par := par) (kx := kx) (kk := kid t) (ow := zl_ow (st t)) (n := zl_nk (st t)) (by omega) ra192 (by omega) T1 hpa KK hyo ?_
        have ofo : zl_fo (fun k => (yre (kid t k), upd (upd yck t (zl_mx (zg_o st kid t) (yck t) (zl_ow (st t)) (zl_nk (st t) - zl_ow (st t)))) t (upd yck t (zl_mx (zg_o st kid t) (yck t) (zl_ow (st t)) (zl_nk (st t) - zl_ow (st t))) t + 1) (kid t k))) (zl_lb g (st t)) (yrg (4 * t + zl_la g (st t))) (zl_ow (st t)) (zl_nk (st t) - zl_ow (st t)) = zl_fo (zg_o st kid t) (zl_lb g (st t)) (zl_rg (st t) (zl_la g (st t))) (zl_ow (st t)) (zl_nk (st t) - zl_ow (st t)) := by
          rw [rgt _ q6]
          exact zl_foc1 (fun k h1 h2 => by
            have x2 := (R4.2.2.1 t k hT (by omega)).2.1
            exact T8 _ x2)
        rw [ofo, us_us, us_s]
        obtain ⟨tr1, tr2, tr3⟩ := trc (zl_nx g (zg_o st kid t) (st t)) (by rw [el]; rfl) (by rw [el]; rfl)
        have ow' : zl_ow (zl_nx g (zg_o st kid t) (st t)) = zl_nk (st t) := by rw [el]; rfl
        have yoc : ∀ (a b : Int32) (x : Nat → Int32), (∀ i, i < m → x i = if 0 < i ∧ kx i < zl_ow (st (par i)) then a else b) → ∀ i, i < m → yw_o (kid t) a (zl_ow (st t)) (zl_nk (st t) - zl_ow (st t)) x i = if 0 < i ∧ kx i < zl_ow (fu st t (zl_nx g (zg_o st kid t) (st t)) (par i)) then a else b := by
          intro a b x hx i hi
          by_cases hp : 0 < i ∧ par i = t
          · obtain ⟨x1, x2⟩ := KK.2.1 i hp.1 hi hp.2
            rw [hp.2, fu_s, ow', if_pos ⟨hp.1, x1⟩]
            by_cases lt : kx i < zl_ow (st t)
            · rw [yw_oe _ _ _ _ (fun l h1 h2 z => by
                have y := (KK.1 l (by omega)).2.2.2
                rw [← z] at y; omega), hx i hi, hp.2, if_pos ⟨hp.1, lt⟩]
            · have z := yw_oi (v := a) k3 (zl_nk (st t) - zl_ow (st t)) (zl_ow (st t)) x (kx i) (by omega) (by omega) (by omega)
              rw [x2] at z; exact z
          · rw [yw_oe _ _ _ _ (fun l h1 h2 z => by
              obtain ⟨y1, y2, y3, y4⟩ := KK.1 l (by omega)
              rw [← z] at y1 y3
              exact hp ⟨by omega, y3⟩), hx i hi]
            by_cases q : par i = t
            · have : ¬ 0 < i := fun z => hp ⟨z, q⟩
              rw [if_neg (fun z => this z.1), if_neg (fun z => this z.1)]
            · rw [fu_n q]
        have T' := yt_up R5 hT (l' := zl_nx g (zg_o st kid t) (st t)) (gtr' := nI (sn_s (fun t => zl_nl (st t)) m + 1)) (yce' := yce) (ytp' := upd ytp (sn_s (fun t => zl_nl (st t)) m) (nI (zl_pr (st t)))) (ytl' := upd ytl (sn_s (fun t => zl_nl (st t)) m) (nI (zl_pc (st t)))) (yrg' := upd yrg (4 * t + zl_la g (st t)) (zl_fo (zg_o st kid t) (zl_lb g (st t)) (zl_rg (st t) (zl_la g (st t))) (zl_ow (st t)) (zl_nk (st t) - zl_ow (st t)))) (you' := yw_o (kid t) 0 (zl_ow (st t)) (zl_nk (st t) - zl_ow (st t)) you) (yfo' := yw_o (kid t) 1 (zl_ow (st t)) (zl_nk (st t) - zl_ow (st t)) yfo) (ynx' := upd ynx t (nI (zl_pc (st t) + 1))) (Vck := zl_mx (zg_o st kid t) (yck t) (zl_ow (st t)) (zl_nk (st t) - zl_ow (st t)) + 1) (Vre := yre t)
          (by rw [el]; rfl) (by rw [el, T9 t hT]; rfl) (by rw [el, T8 t hT]; rfl) (by rw [el, us_s]; exact fun _ => rfl) (fun i hi => us_n hi) (by rw [el]; exact xt_rg rgt) (xt_rg2 q6) (by rw [el]; exact fun _ _ => rfl) (yoc 0 1 you T11) (yoc 1 0 yfo T12) tr1 tr2 tr3
        simp only [us_id] at T'
        have G' := zg_1 R4 hT nd hs (fun _ k _ hk => kdn k hk)
        have lt := yr_Pu (lim := lim) hT nb.2.1
        have enk : zl_nk (zl_nx g (zg_o st kid t) (st t)) = zl_nk (st t) := by rw [el]; rfl
        rw [nI_1]
        exact ih (step + 1) m _ par kx kid pm t _ _ _ _ _ _ _ _ _ _ _ _ _ _ _ (by omega) (by omega) ⟨R1, R2, R3, G', T', ys_F1 R4 R6 nd⟩ (ys_st R4 I enk (by rw [el]; rfl))
      · have el := zl_x11 (g := g) (o := zg_o st kid t) nd he h11
        rw [h11]
        refine yl_ret it ira ?_
        rw [ct, cra, us_us, us_s, rgt _ q6]
        obtain ⟨tr1, tr2, tr3⟩ := trc (zl_nx g (zg_o st kid t) (st t)) (by rw [el]; rfl) (by rw [el]; rfl)
        have T' := yt_up R5 hT (l' := zl_nx g (zg_o st kid t) (st t)) (gtr' := nI (sn_s (fun t => zl_nl (st t)) m + 1)) (yce' := yce) (ytp' := upd ytp (sn_s (fun t => zl_nl (st t)) m) (nI (zl_pr (st t)))) (ytl' := upd ytl (sn_s (fun t => zl_nl (st t)) m) (nI (zl_pc (st t)))) (yrg' := yrg) (you' := you) (yfo' := yfo) (ynx' := upd ynx t (nI (zl_pc (st t) + 1))) (Vck := zl_mx (zg_o st kid t) (yck t) (zl_ow (st t)) (zl_nk (st t) - zl_ow (st t)) + 1) (Vre := zl_rg (st t) (zl_la g (st t)))
          (by rw [el]; rfl) (by rw [el, T9 t hT]; rfl) (by rw [el]; rfl) (by rw [el]; exact fun z => absurd (show true = false from z) (by decide)) (fun i hi => us_n hi) (by rw [el]; exact rgt) (fun _ _ _ _ => rfl) (by rw [el]; exact fun _ _ => rfl) (yt_ow (by rw [el]; rfl) T11) (yt_ow (by rw [el]; rfl) T12) tr1 tr2 tr3
        exact fine _ _ _ _ _ _ hs (by rw [el]; rfl) T'
    · have h9 : ¬ zl_op g (st t) = 9 := fun z => hnw (Or.inl z)
      have h11 : ¬ zl_op g (st t) = 11 := fun z => hnw (Or.inr z)
      have nw : ¬ zl_w g (st t) := by
        rintro (z | z | z)
        · exact he z
        · exact h9 z
        · exact h11 z
      -- a line that goes on in the same task
      have run : ∀ (l' : zl_T) (yck' ynx' yrg' yce' : Nat → Int32), zl_nx g (zg_o st kid t) (st t) = l' → ¬ zl_s g (st t) → zl_dn l' = false → zl_nk l' = zl_nk (st t) → yt_T m (fu st t l') par kx pm gmd (nI (sn_s (fun t => zl_nl (st t)) m + 1)) ypr yar ypa yre ybe yck' ynx' you yfo yrg' yce' (upd ytp (sn_s (fun t => zl_nl (st t)) m) (nI (zl_pr (st t)))) (upd ytl (sn_s (fun t => zl_nl (st t)) m) (nI (zl_pc (st t)))) → wY_settle_59 post N (nI t) (nI step + 1) gwc grg glm gst ggv grp gra gmd (nI (sn_s (fun t => zl_nl (st t)) m + 1)) yvi yli yco ypr yar ypa yre ybe yck' ynx' you yfo yrg' yce' (upd ytp (sn_s (fun t => zl_nl (st t)) m) (nI (zl_pr (st t)))) (upd ytl (sn_s (fun t => zl_nl (st t)) m) (nI (zl_pc (st t)))) := by
        intro l' yck' ynx' yrg' yce' el hs dl enk T'
        have G' := zg_1 R4 hT nd hs (fun z => absurd z nw)
        have nb2 := nb
        rw [el] at G' nb2
        have lt := yr_Pu (lim := lim) hT nb2.2.1
        rw [nI_1]
        exact ih (step + 1) m _ par kx kid pm t _ _ _ _ _ _ _ _ _ _ _ _ _ _ _ (by omega) (by omega) ⟨R1, R2, R3, G', T', ys_F1 R4 R6 nd⟩ (ys_st R4 I enk dl)
      by_cases h8 : zl_op g (st t) = 8
      · have hs : zl_s g (st t) := ⟨he, h8⟩
        rw [h8]
        by_cases hfull : gmd < glm
        · have hfull2 := hfull
          rw [T1, elm, nI_ltI (by omega) (by omega)] at hfull2
          refine yl_spawn (m := m) it hfull (by omega) T1 ?_
          rw [ct, hv (by rw [h8]; decide), nI_1]
          have G' := zg_2 R4 hT nd hs (zg_o st kid t)
          have T' := yt_sp R4 R5 hT pr4 q1 nd hs (zg_o st kid t) (A := zl_rg (st t) (zl_lr g (st t))) rfl rfl
          obtain ⟨s1, s2, s3⟩ := (zl_n1 g (zg_o st kid t) (st t) nd).2.1 hs
          obtain ⟨I', F'⟩ := ys_sp R4 I R6 s1 s3 (zl_la g (st t), zl_rg (st t) (zl_lr g (st t)), zl_ck (st t) + 1)
          have lt := yr_Ps (lim := lim) (p := (zl_la g (st t), zl_rg (st t) (zl_lr g (st t)), zl_ck (st t) + 1)) hT hfull2 nb.2.1
          have em : gmd = nI m := T1
          rw [em]
          refine ih (step + 1) (m + 1) _ _ _ _ _ m _ _ _ _ _ _ _ _ _ _ _ _ _ _ _ (by omega) (by omega) ⟨by omega, ?_, ?_, G', T', F'⟩ I'
          · rw [fu_n (by have := R4.1; omega)]; exact R2
          · intro i hi
            by_cases q : i = m
            · subst q; rw [fu_s]; exact q6
            · rw [fu_n q]; exact R3 i (by omega)
        · refine yl_fail it hfull ?_
          rw [T1, elm, nI_ltI (by omega) (by omega)] at hfull
          exact finF m st par kx kid pm t _ _ _ _ _ _ _ _ _ _ _ _ _ _ _ (by omega) R2 R4 hT nd hs
      have hs : ¬ zl_s g (st t) := fun z => h8 z.2
      by_cases h10 : zl_op g (st t) = 10
      · have el := zl_x10 (g := g) (o := zg_o st kid t) nd he h10
        have ca : (nI (zl_la g (st t))).toNatClampNeg = zl_la g (st t) := nI_clamp (by omega)
        have hv2 := hv (by rw [h10]; decide)
        rw [h10]
        refine yl_tally it (vp_in_nI q6 (by decide)) ?_
        rw [ct, ca, hv2]
        obtain ⟨tr1, tr2, tr3⟩ := trc (zl_nx g (zg_o st kid t) (st t)) (by rw [el]; rfl) (by rw [el]; rfl)
        have T' := yt_up R5 hT (l' := zl_nx g (zg_o st kid t) (st t)) (gtr' := nI (sn_s (fun t => zl_nl (st t)) m + 1)) (yce' := upd yce (zl_la g (st t)) (yce (zl_la g (st t)) + zl_rg (st t) (zl_lr g (st t)))) (ytp' := upd ytp (sn_s (fun t => zl_nl (st t)) m) (nI (zl_pr (st t)))) (ytl' := upd ytl (sn_s (fun t => zl_nl (st t)) m) (nI (zl_pc (st t)))) (yrg' := yrg) (you' := you) (yfo' := yfo) (ynx' := upd ynx t (nI (zl_pc (st t) + 1))) (Vck := yck t + 1) (Vre := yre t)
          (by rw [el]; rfl) (by rw [el, T9 t hT]; rfl) (by rw [el, T8 t hT]; rfl) (by rw [el, us_s]; exact fun _ => rfl) (fun i hi => us_n hi) (by rw [el]; exact rgt) (fun _ _ _ _ => rfl) (by rw [el]; exact xt_ce) (yt_ow (by rw [el]; rfl) T11) (yt_ow (by rw [el]; rfl) T12) tr1 tr2 tr3
        simp only [us_id] at T'
        exact run _ _ _ _ _ rfl hs (by rw [el]; rfl) (by rw [el]; rfl) T'
      by_cases h67 : zl_op g (st t) = 6 ∨ zl_op g (st t) = 7
      · have bx := zl_x6 (g := g) (o := zg_o st kid t) nd he h67 rfl
        refine yl_test h67 it ira ?_ ?_
        · rw [cra, ct, rgt _ q6]
          intro hcond
          rw [if_pos hcond] at bx
          obtain ⟨tr1, tr2, tr3⟩ := trc (zl_nx g (zg_o st kid t) (st t)) (by rw [bx]; rfl) (by rw [bx]; rfl)
          have T' := yt_up R5 hT (l' := zl_nx g (zg_o st kid t) (st t)) (gtr' := nI (sn_s (fun t => zl_nl (st t)) m + 1)) (yce' := yce) (ytp' := upd ytp (sn_s (fun t => zl_nl (st t)) m) (nI (zl_pr (st t)))) (ytl' := upd ytl (sn_s (fun t => zl_nl (st t)) m) (nI (zl_pc (st t)))) (yrg' := yrg) (you' := you) (yfo' := yfo) (ynx' := upd ynx t (nI (zl_pc (st t) + 1))) (Vck := yck t + 1) (Vre := yre t)
            (by rw [bx]; rfl) (by rw [bx, T9 t hT]; rfl) (by rw [bx, T8 t hT]; rfl) (by rw [bx, us_s]; exact fun _ => rfl) (fun i hi => us_n hi) (by rw [bx]; exact rgt) (fun _ _ _ _ => rfl) (by rw [bx]; exact fun _ _ => rfl) (yt_ow (by rw [bx]; rfl) T11) (yt_ow (by rw [bx]; rfl) T12) tr1 tr2 tr3
          simp only [us_id] at T'
          exact run _ _ _ _ _ rfl hs (by rw [bx]; rfl) (by rw [bx]; rfl) T'
        · rw [cra, ct, rgt _ q6]
          intro hcond
          rw [if_neg hcond] at bx
          obtain ⟨tr1, tr2, tr3⟩ := trc (zl_nx g (zg_o st kid t) (st t)) (by rw [bx]; rfl) (by rw [bx]; rfl)
          have T' := yt_up R5 hT (l' := zl_nx g (zg_o st kid t) (st t)) (gtr' := nI (sn_s (fun t => zl_nl (st t)) m + 1)) (yce' := yce) (ytp' := upd ytp (sn_s (fun t => zl_nl (st t)) m) (nI (zl_pr (st t)))) (ytl' := upd ytl (sn_s (fun t => zl_nl (st t)) m) (nI (zl_pc (st t)))) (yrg' := yrg) (you' := you) (yfo' := yfo) (ynx' := upd ynx t (nI (zl_pc (st t)) + 2)) (Vck := yck t + 1) (Vre := yre t)
            (by rw [bx]; rfl) (by rw [bx, T9 t hT]; rfl) (by rw [bx, T8 t hT]; rfl) (by rw [bx, us_s]; exact fun _ => nI_add _ 2) (fun i hi => us_n hi) (by rw [bx]; exact rgt) (fun _ _ _ _ => rfl) (by rw [bx]; exact fun _ _ => rfl) (yt_ow (by rw [bx]; rfl) T11) (yt_ow (by rw [bx]; rfl) T12) tr1 tr2 tr3
          simp only [us_id] at T'
          rw [us_us]
          exact run _ _ _ _ _ rfl hs (by rw [bx]; rfl) (by rw [bx]; rfl) T'
      have j5 : j ≤ 5 := by
        have n9 : j ≠ 9 := fun z => h9 (by rw [q4, z]; rfl)
        have n11 : j ≠ 11 := fun z => h11 (by rw [q4, z]; rfl)
        have n8 : j ≠ 8 := fun z => h8 (by rw [q4, z]; rfl)
        have n10 : j ≠ 10 := fun z => h10 (by rw [q4, z]; rfl)
        have n6 : j ≠ 6 := fun z => h67 (Or.inl (by rw [q4, z]; rfl))
        have n7 : j ≠ 7 := fun z => h67 (Or.inr (by rw [q4, z]; rfl))
        omega
      have bx := zl_xc (g := g) (o := zg_o st kid t) nd he j5 q4
      have cvv : zl_cv (nI j) (zl_rg (st t) (zl_la g (st t))) v (zl_lb g (st t)) = zl_cv (zl_op g (st t)) (zl_rg (st t) (zl_la g (st t))) (zl_rg (st t) (zl_lr g (st t))) (zl_lb g (st t)) := by
        have jc : j = 0 ∨ j = 1 ∨ j = 2 ∨ j = 3 ∨ j = 4 ∨ j = 5 := by omega
        rcases jc with rfl | rfl | rfl | rfl | rfl | rfl
        · rw [q4]; rfl
        · rw [q4, hv (by rw [q4]; decide)]
        · rw [q4, hv (by rw [q4]; decide)]
        · rw [q4, hv (by rw [q4]; decide)]
        · rw [q4, hv (by rw [q4]; decide)]
        · rw [q4]; rfl
      rw [q4]
      refine yl_comp j5 it ira ?_
      rw [ct, cra, rgt _ q6, cvv]
      obtain ⟨tr1, tr2, tr3⟩ := trc (zl_nx g (zg_o st kid t) (st t)) (by rw [bx]; rfl) (by rw [bx]; rfl)
      have T' := yt_up R5 hT (l' := zl_nx g (zg_o st kid t) (st t)) (gtr' := nI (sn_s (fun t => zl_nl (st t)) m + 1)) (yce' := yce) (ytp' := upd ytp (sn_s (fun t => zl_nl (st t)) m) (nI (zl_pr (st t)))) (ytl' := upd ytl (sn_s (fun t => zl_nl (st t)) m) (nI (zl_pc (st t)))) (yrg' := upd yrg (4 * t + zl_la g (st t)) (zl_cv (zl_op g (st t)) (zl_rg (st t) (zl_la g (st t))) (zl_rg (st t) (zl_lr g (st t))) (zl_lb g (st t)))) (you' := you) (yfo' := yfo) (ynx' := upd ynx t (nI (zl_pc (st t) + 1))) (Vck := yck t + 1) (Vre := yre t)
        (by rw [bx]; rfl) (by rw [bx, T9 t hT]; rfl) (by rw [bx, T8 t hT]; rfl) (by rw [bx, us_s]; exact fun _ => rfl) (fun i hi => us_n hi) (by rw [bx]; exact xt_rg rgt) (xt_rg2 q6) (by rw [bx]; exact fun _ _ => rfl) (yt_ow (by rw [bx]; rfl) T11) (yt_ow (by rw [bx]; rfl) T12) tr1 tr2 tr3
      simp only [us_id] at T'
      exact run _ _ _ _ _ rfl hs (by rw [bx]; rfl) (by rw [bx]; rfl) T'
end
end
section
/-! two finished runs give the same outcomes -/
section
/-- the outcomes, as both sides are asked for them -/
def dn_R (fmd fwd gmd gtr : Int32) (xce xlc xpr xar xpa xki xfo xre xbe xck xru xod xnu ypr yar ypa yre ybe yck yfo yce ytp ytl : Nat → Int32) : Prop :=
  ∃ m S : Nat, 0 < m ∧ m ≤ 48 ∧ fmd = nI m ∧ gmd = nI m ∧ S ≤ 480 ∧ fwd = nI S ∧ gtr = nI S ∧
  (∀ q l, q < 4 → l < 10 → xlc (q * 10 + l) = nI (sn_s (yt_c ytp ytl (nI q) (nI l)) S)) ∧ (∀ i, i < S → ∃ q l, q < 4 ∧ l < 10 ∧ ytp i = nI q ∧ ytl i = nI l) ∧
  (∀ c, c < 4 → xce c = yce c) ∧ xck 0 = yck 0 ∧
  (∀ n, n < m → ∃ t, t < 48 ∧ xod n = nI t ∧ xpr t = ypr n ∧ xar t = yar n ∧ xre t = yre n ∧ xbe t = ybe n ∧ xck t = yck n ∧ xru t = 1 ∧ ((xpa t = -1 ∧ ypa n = -1) ∨ (∃ q, q < 48 ∧ xpa t = nI q ∧ xnu q = ypa n)) ∧ xki t = nI (sn_s (fun c => if ypa c = nI n then 1 else 0) m) ∧ xfo t = nI (sn_s (fun c => if ypa c = nI n ∧ ¬ yfo c = 0 then 1 else 0) m))
theorem kc_sum {m t n : Nat} {par kx kk : Nat → Nat} (KK : yw_K m t n par kx kk) {f : Nat → Nat} {W : Nat → Nat} (h1 : ∀ c, c < m → 0 < c → par c = t → f c = W (kx c)) (h0 : ∀ c, c < m → ¬ (0 < c ∧ par c = t) → f c = 0) : sn_s f m = sn_s W n := by
  obtain ⟨k1, k2, k3⟩ := KK
  have key : ∀ C, C ≤ m → ∃ k, k ≤ n ∧ (∀ i, i < k → kk i < C) ∧ (∀ i, k ≤ i → i < n → C ≤ kk i) ∧ sn_s f C = sn_s W k := by
    intro C
    induction C with
    | zero => intro _; exact ⟨0, Nat.zero_le _, fun i hi => by omega, fun i _ _ => Nat.zero_le _, rfl⟩
    | succ C ih =>
      intro hC
      obtain ⟨k, a1, a2, a3, a4⟩ := ih (by omega)
      by_cases hp : 0 < C ∧ par C = t
      · obtain ⟨q1, q2⟩ := k2 C hp.1 (by omega) hp.2
        have ek : kx C = k := by
          rcases Nat.lt_trichotomy (kx C) k with z | z | z
          · have := a2 _ z; omega
          · exact z
          · have := k3 k (kx C) z q1
            have := a3 k (Nat.le_refl _) (by omega)
            omega
        rw [ek] at q1 q2
        refine ⟨k + 1, by omega, fun i hi => ?_, fun i h5 h6 => ?_, ?_⟩
        · by_cases z : i = k
          · rw [z]; omega
          · have := a2 i (by omega); omega
        · have := k3 k i (by omega) h6; omega
        · rw [sn_1, sn_1, a4, h1 C (by omega) hp.1 hp.2, ek]
      · refine ⟨k, a1, fun i hi => by have := a2 i hi; omega, fun i h5 h6 => ?_, ?_⟩
        · have a := a3 i h5 h6
          have b := k1 i h6
          have : kk i ≠ C := by
            intro z
            refine hp ⟨by omega, ?_⟩
            rw [← z]; exact b.2.2.1
          omega
        · rw [sn_1, a4, h0 C (by omega) hp]; rfl
  obtain ⟨k, a1, a2, a3, a4⟩ := key m (Nat.le_refl _)
  have : k = n := by
    rcases Nat.lt_or_ge k n with z | z
    · have := a3 k (Nat.le_refl _) z
      have := (k1 k z).2.1
      omega
    · omega
  rw [a4, this]
theorem sn_one : ∀ n, sn_s (fun _ => 1) n = n
  | 0 => rfl
  | n + 1 => by rw [sn_1, sn_one n]
theorem sn_lt {o : Nat} : ∀ n, sn_s (fun i => if i < o then 1 else 0) n = if n < o then n else o
  | 0 => by rw [sn_0]; split <;> omega
  | n + 1 => by
    rw [sn_1, sn_lt n]
    by_cases h : n < o
    · rw [if_pos h, if_pos h]; split <;> omega
    · rw [if_neg h, if_neg h, if_neg (by omega)]; rfl
theorem zg_K {g : zl_G} {m : Nat} {st : Nat → zl_T} {par kx : Nat → Nat} {kid : Nat → Nat → Nat} {pm : Nat → zl_P} (G : zg_G g m st par kx kid pm) {t : Nat} (hT : t < m) : yw_K m t (zl_nk (st t)) par kx (kid t) := by
  have k3 : ∀ i j, i < j → j < zl_nk (st t) → kid t i < kid t j := by
    intro i j h1
    obtain ⟨d, rfl⟩ := Nat.le.dest h1
    clear h1
    induction d with
    | zero => intro h2; exact G.2.2.2.1 t i hT h2
    | succ d ihd =>
      intro h2
      have a := ihd (by omega)
      have b := G.2.2.2.1 t (i + 1 + d) hT (by omega)
      rw [show i.succ + (d + 1) = i + 1 + d + 1 by omega]
      have a' : kid t i < kid t (i + 1 + d) := a
      omega
  refine ⟨fun k hk => ?_, fun c h1 h2 h3 => ?_, k3⟩
  · obtain ⟨x1, x2, x3, x4, x5⟩ := G.2.2.1 t k hT hk
    exact ⟨x1, x2, x3, x4⟩
  · obtain ⟨x1, x2, x3⟩ := G.2.1 c h1 h2
    rw [h3] at x2 x3
    exact ⟨x2, x3⟩
theorem xn_oe {sq xod : Nat → Int32} {n : Nat} : ∀ e, n < e → xn_o sq xod e n = sq n
  | 0, h => by omega
  | e + 1, h => by
    show upd (xn_o sq xod e) e (sq e) n = sq n
    by_cases q : n = e
    · subst q; rw [us_s]
    · rw [us_n q]; exact xn_oe e (by omega)
theorem xn_ne {sq xnu : Nat → Int32} {φ : Nat → Nat} {m n : Nat} (hs : ∀ i, i < m → (sq i).toNatClampNeg = φ i) (hi : ∀ i j, i < m → j < m → φ i = φ j → i = j) : ∀ e, n < e → e ≤ m → xn_n sq xnu e (φ n) = nI n
  | 0, h, _ => by omega
  | e + 1, h, h2 => by
    show upd (xn_n sq xnu e) (sq e).toNatClampNeg (nI e) (φ n) = nI n
    rw [hs e (by omega)]
    by_cases q : n = e
    · subst q; rw [us_s]
    · rw [us_n (fun z => q (hi n e (by omega) (by omega) z))]; exact xn_ne hs hi e (by omega) (by omega)
variable {g : zl_G} {lim : Nat} {p : zl_P} {m m' : Nat} {st st' : Nat → zl_T} {par par' kx kx' : Nat → Nat} {kid kid' : Nat → Nat → Nat} {pm pm' : Nat → zl_P} {fmd fwd gmd gtr : Int32} {xce xlc xpr xar xpa xfk xlk xnk xow xki xfo xre xbe xck xru xpc xrg ypr yar ypa yre ybe yck ynx you yfo yrg yce ytp ytl xod xnu : Nat → Int32}
/-- going up from a task through last children -/
theorem xf_chain (X : xt_T m' st' par' kx' kid' pm' fmd fwd xce xlc xpr xar xpa xfk xlk xnk xow xki xfo xre xbe xck xru xpc xrg) {φ f : Nat → Nat} {r y : Nat} (h1 : ∀ i, i ≤ r → φ (f i) < m' ∧ 0 < φ (f i)) (h2 : ∀ i, i < r → par' (φ (f i)) = φ (f (i + 1)) ∧ kx' (φ (f i)) + 1 = zl_nk (st' (par' (φ (f i))))) (h3 : kx' (φ (f r)) + 1 < zl_nk (st' (par' (φ (f r))))) (h4 : kid' (par' (φ (f r))) (kx' (φ (f r)) + 1) = y) (hy : y < 48) (hm : m' ≤ 48) : ∀ d i, i + d = r → ∀ F, d < F → xf_up xnk xpa F (nI (φ (f i))) = nI y := by
  obtain ⟨T1, T2, T3, T4, T5, T6, T7, T8, T9, T10, T11, T12, T13, T14, T15, T16, T17, T18, T19⟩ := X
  intro d
  induction d with
  | zero =>
    intro i hi F hF
    obtain ⟨k, rfl⟩ : ∃ k, F = k + 1 := ⟨F - 1, by omega⟩
    have : i = r := by omega
    subst this
    obtain ⟨a1, a2⟩ := h1 i (Nat.le_refl _)
    have e : xnk (φ (f i)) = nI y := by rw [T11 _ a1, if_pos ⟨a2, h3⟩, h4]
    unfold xf_up
    rw [if_neg (nI_pos (by omega)), nI_clamp (by omega), e, if_neg (nI_pos (by omega))]
  | succ d ih =>
    intro i hi F hF
    obtain ⟨k, rfl⟩ : ∃ k, F = k + 1 := ⟨F - 1, by omega⟩
    obtain ⟨a1, a2⟩ := h1 i (by omega)
    obtain ⟨b1, b2⟩ := h2 i (by omega)
    have e : xnk (φ (f i)) = -1 := by rw [T11 _ a1, if_neg (fun z => by omega)]
    unfold xf_up
    rw [if_neg (nI_pos (by omega)), nI_clamp (by omega), e, if_pos (by decide), T8 _ a1, if_neg (by omega), b1]
    exact ih (i + 1) (by omega) k (by omega)
theorem dn_mk (hlim : lim ≤ 48) (PG : zl_pg g) (X : xr_T g lim p m' st' par' kx' kid' pm' fmd fwd xce xlc xpr xar xpa xfk xlk xnk xow xki xfo xre xbe xck xru xpc xrg) (DX : ∀ t, t < m' → zl_dn (st' t) = true) (Y : yr_T g lim p m st par kx kid pm gmd gtr ypr yar ypa yre ybe yck ynx you yfo yrg yce ytp ytl) (DY : ∀ t, t < m → zl_dn (st t) = true) {e : Nat} (he : e ≤ m') (hee : e = m' ∨ xf_sq xfk xnk xpa e < 0) : dn_R fmd fwd gmd gtr xce xlc xpr xar xpa xki xfo xre xbe xck xru (xn_o (xf_sq xfk xnk xpa) xod e) (xn_n (xf_sq xfk xnk xpa) xnu e) ypr yar ypa yre ybe yck yfo yce ytp ytl := by
  obtain ⟨X1, X2, X3, X4, X5⟩ := X
  obtain ⟨Y1, Y2, Y3, Y4, Y5, Y6⟩ := Y
  obtain ⟨em, φ, f0, f1, finj, fsur, fpar, fkid⟩ := zq_z Y4 X4 DY DX (Y2.trans X2.symm)
  subst em
  have XT := X5
  obtain ⟨A1, A2, A3, A4, A5, A6, A7, A8, A9, A10, A11, A12, A13, A14, A15, A16, A17, A18, A19⟩ := X5
  obtain ⟨B1, B2, B3, B4, B5, B6, B7, B8, B9, B10, B11, B12, B13, B14, B15⟩ := Y5
  have m48 : m ≤ 48 := by omega
  have m0 := Y4.1
  -- the numbering
  have nxt : ∀ n, n + 1 < m → xf_F xfk xnk xpa (nI (φ n)) = nI (φ (n + 1)) := by
    intro n hn
    obtain ⟨c1, c2, c3⟩ := f1 n (by omega)
    obtain ⟨d1, d2, d3⟩ := f1 (n + 1) hn
    obtain ⟨a1, a2, a3⟩ := Y4.2.1 (n + 1) (by omega) hn
    unfold xf_F
    rw [nI_clamp (by omega), A9 _ c1, ← c3]
    rcases Y6 n hn with ⟨z1, z2⟩ | ⟨z1, r, f, g0, g1, g2, g3, g4⟩
    · rw [z1, z2] at a2 a3
      rw [if_pos a2, if_neg, ← fkid n 0 (by omega) a2, a3]
      have := (f1 _ (Y4.2.2.1 n 0 (by omega) a2).2.1).1
      rw [← fkid n 0 (by omega) a2]
      exact nI_pos (by omega)
    · rw [if_neg (show ¬ 0 < zl_nk (st n) by omega), if_pos (by decide)]
      obtain ⟨w1, w2, w3⟩ := g1 r (Nat.le_refl _)
      obtain ⟨v1, v2, v3⟩ := fpar (f r) w2 w1
      have plt : par (f r) < m := by have := (Y4.2.1 (f r) w2 w1).1; omega
      have ch := fun a1 a2 a3 a4 a5 => xf_chain XT (φ := φ) (f := f) (r := r) (y := φ (n + 1)) a1 a2 a3 a4 (by omega) m48 r 0 (by omega) 48 a5
      rw [g0] at ch
      refine ch ?_ ?_ ?_ ?_ ?_
      · intro i hi
        obtain ⟨x1, x2, x3⟩ := g1 i hi
        exact ⟨(f1 _ x1).1, (fpar _ x2 x1).1⟩
      · intro i hi
        obtain ⟨x1, x2, x3⟩ := g1 i (by omega)
        obtain ⟨y1, y2, y3⟩ := g1 (i + 1) (by omega)
        obtain ⟨z1, z2⟩ := g2 i hi
        obtain ⟨u1, u2, u3⟩ := fpar _ x2 x1
        rw [u2, u3, ← z1, ← (f1 _ y1).2.2]
        exact ⟨rfl, z2⟩
      · rw [v2, v3, ← (f1 _ plt).2.2, g3, ← g4]; exact a2
      · rw [v2, v3, g3, ← g4]
        have := fkid (par (n + 1)) (kx (n + 1)) (by omega) a2
        rw [a3] at this; exact this.symm
      · have dec : ∀ i, i ≤ r → f i + i ≤ n := by
          intro i
          induction i with
          | zero => intro _; omega
          | succ i ihi =>
            intro hi
            have a := ihi (by omega)
            obtain ⟨x1, x2, x3⟩ := g1 i (by omega)
            have b := (Y4.2.1 (f i) x2 x1).1
            have c := (g2 i (by omega)).1
            omega
        have := dec r (Nat.le_refl _)
        omega
  have sqn : ∀ n, n < m → xf_sq xfk xnk xpa n = nI (φ n) := by
    intro n
    induction n with
    | zero => intro _; rw [f0]; rfl
    | succ n ih =>
      intro hn
      show xf_F xfk xnk xpa (xf_sq xfk xnk xpa n) = _
      rw [ih (by omega)]; exact nxt n hn
  have ee : e = m := by
    rcases hee with z | z
    · exact z
    · rcases Nat.lt_or_ge e m with y | y
      · have := (f1 e y).1
        rw [sqn e y] at z; exact absurd z (nI_pos (by omega))
      · omega
  subst ee
  have bl : ∀ i, i < e → zl_nl (st i) ≤ 10 := fun i hi => (zg_b PG Y4 Y3 hi).2.1
  have sle : sn_s (fun t => zl_nl (st t)) e ≤ 480 := by
    have := sn_b (f := fun t => zl_nl (st t)) (c := 10) (n := e) bl
    omega
  have φlt : ∀ i, i < e → φ i < e := fun i hi => (f1 i hi).1
  have snφ : ∀ F : zl_T → Nat, sn_s (fun t => F (st' t)) e = sn_s (fun t => F (st t)) e := by
    intro F
    rw [← sn_p (f := fun t => F (st' t)) φlt finj fsur]
    exact sn_c (fun i hi => by rw [(f1 i hi).2.2])
  refine ⟨e, sn_s (fun t => zl_nl (st t)) e, m0, m48, A1, B1, sle, by rw [A2, snφ zl_nl], B2, ?_, B15, ?_, ?_, ?_⟩
  · intro q l hq hl
    rw [A4 _ (by omega), B14 q l hq hl, snφ (fun z => zl_cn z (q * 10 + l))]
  · intro c hc
    rw [A3 c hc, B3 c hc, ← si_p (f := fun t => zl_tl (st' t) c) φlt finj fsur]
    exact si_c (fun i hi => by rw [(f1 i hi).2.2])
  · rw [A16 0 m0, B9 0 m0, (f1 0 m0).2.2, f0]
  · intro n hn
    obtain ⟨c1, c2, c3⟩ := f1 n hn
    refine ⟨φ n, by omega, by rw [xn_oe e hn, sqn n hn], ?_, ?_, ?_, ?_, ?_, ?_, ?_, ?_, ?_⟩
    · rw [A5 _ c1, B4 n hn, c3]
    · rw [A6 _ c1, B5 n hn, c2]
    · rw [A15 _ c1, B8 n hn, c3]
    · rw [A7 _ c1, B6 n hn, c2]
    · rw [A16 _ c1, B9 n hn, c3]
    · rw [A17 _ c1, ← c3, DY n hn]; rfl
    · rcases Nat.eq_zero_or_pos n with z | z
      · refine Or.inl ?_
        rw [A8 _ c1, B7 n hn, z, f0]; exact ⟨rfl, rfl⟩
      · obtain ⟨a1, a2, a3⟩ := fpar n z hn
        have pl := (Y4.2.1 n z hn).1
        have pl2 := φlt (par n) (by omega)
        refine Or.inr ⟨φ (par n), by omega, ?_, ?_⟩
        · rw [A8 _ c1, if_neg (by omega), a2]
        · rw [B7 n hn, if_neg (by omega)]
          exact xn_ne (φ := φ) (m := e) (fun i hi => by rw [sqn i hi]; exact nI_clamp (by have := φlt i hi; omega)) finj e (by omega) (Nat.le_refl _)
    · rw [A13 _ c1, ← c3]
      refine congrArg nI ?_
      have k := kc_sum (zg_K Y4 hn) (f := fun c => if ypa c = nI n then 1 else 0) (W := fun _ => 1) (fun c h1 h2 h3 => by
        have := (Y4.2.1 c h2 h1).1
        show (if ypa c = nI n then 1 else 0) = 1
        rw [B7 c h1, if_neg (show ¬ c = 0 by omega), h3, if_pos rfl]) (fun c h1 h2 => by
        show (if ypa c = nI n then 1 else 0) = 0
        rw [if_neg]
        rw [B7 c h1]
        by_cases q : c = 0
        · rw [if_pos q]
          intro z
          have z2 : (-1 : Int32) < 0 := by decide
          rw [z] at z2
          exact absurd z2 (nI_pos (by omega))
        · have := (Y4.2.1 c (by omega) h1).1
          rw [if_neg q, nI_eq (by omega) (by omega)]
          exact fun z => h2 ⟨by omega, z⟩)
      rw [k, sn_one]
    · rw [A14 _ c1, ← c3]
      refine congrArg nI ?_
      have k := kc_sum (zg_K Y4 hn) (f := fun c => if ypa c = nI n ∧ ¬ yfo c = 0 then 1 else 0) (W := fun i => if i < zl_ow (st n) then 1 else 0) (fun c h1 h2 h3 => by
        have := (Y4.2.1 c h2 h1).1
        have e1 : ypa c = nI n := by rw [B7 c h1, if_neg (show ¬ c = 0 by omega), h3]
        have e2 := B12 c h1
        rw [h3] at e2
        show (if ypa c = nI n ∧ ¬ yfo c = 0 then 1 else 0) = if kx c < zl_ow (st n) then 1 else 0
        by_cases q : kx c < zl_ow (st n)
        · rw [if_pos ⟨h2, q⟩] at e2
          rw [if_pos ⟨e1, by rw [e2]; decide⟩, if_pos q]
        · rw [if_neg (fun y => q y.2)] at e2
          rw [if_neg (fun z => z.2 e2), if_neg q]) (fun c h1 h2 => by
        show (if ypa c = nI n ∧ ¬ yfo c = 0 then 1 else 0) = 0
        rw [if_neg]
        rintro ⟨z, _⟩
        rw [B7 c h1] at z
        by_cases q : c = 0
        · rw [if_pos q] at z
          have z2 : (-1 : Int32) < 0 := by decide
          rw [z] at z2
          exact absurd z2 (nI_pos (by omega))
        · have := (Y4.2.1 c (by omega) h1).1
          rw [if_neg q, nI_eq (by omega) (by omega)] at z
          exact h2 ⟨by omega, z⟩)
      rw [k, sn_lt]
      have := (zg_ok Y4 hn).1
      split <;> omega
end
end
section
/-! the component's start -/
section
theorem xs_init {wc rg : Nat} {par : Nat → Nat} {dn wt : Nat → Prop} {xtop xbot xslo xph xcu xhe xit xst xsb xpv xjn xbl : Nat → Int32} (hwc : 1 ≤ wc ∧ wc ≤ 4) (hr : 1 ≤ rg ∧ rg ≤ 8) (h1 : ∀ w, w < 4 → xph w = 0 ∧ xhe w = -1 ∧ 0 ≤ (xtop w).toInt ∧ (xtop w).toInt < rg) (h2 : ∀ w, w < 4 → w ≠ 0 → xbot w = xtop w) (h3 : (xbot 0).toInt = (xtop 0).toInt + 1) (h4 : xslo (ds_ix rg 0 (xtop 0).toInt) = 0) (h5 : xjn 0 = 1) (h7 : ¬ dn 0) : ∃ mu, xs_S wc rg 1 par dn wt mu xtop xbot xslo xph xcu xhe xit xst xsb xpv xjn xbl := by
  have p0 : ∀ w, w < 4 → dF xph w = 0 := fun w hw => by unfold dF; rw [(h1 w hw).1]; decide
  have t0 := (h1 0 (by omega)).2.2
  obtain ⟨lo, hlo⟩ : ∃ lo : Nat → Nat, ∀ t, lo t = 100 + 4 * (xtop 0).toInt.toNat := ⟨fun _ => 100 + 4 * (xtop 0).toInt.toNat, fun _ => rfl⟩
  obtain ⟨hn, hhn⟩ : ∃ hn : Nat → Nat, ∀ t, hn t = 0 := ⟨fun _ => 0, fun _ => rfl⟩
  have kz : ∀ t, jk_K 1 par lo t = 0 := fun t => by
    unfold jk_K
    rw [sn_1, sn_0]
    unfold jk_f
    rw [if_neg (fun z => absurd z.1 (Nat.lt_irrefl 0))]
  refine ⟨_, tI xbot, tI xbot, hn, lo, ?_, ?_, ?_, rfl, fun w hw => by rw [p0 w (by omega)]; omega⟩
  · refine ⟨?_, ?_, ?_, ?_, ?_, ?_, ?_, ?_, ?_, ?_, ?_, ?_, ?_⟩
    · intro w hw
      rw [p0 w (by omega)]
      obtain ⟨_, _, a, b⟩ := h1 w (by omega)
      have c : tI xbot w = (xtop w).toInt ∨ tI xbot w = (xtop w).toInt + 1 := by
        by_cases q : w = 0
        · subst q; exact Or.inr h3
        · unfold tI; rw [h2 w (by omega) q]; exact Or.inl rfl
      have d : tI xtop w = (xtop w).toInt := rfl
      unfold ds_W
      omega
    · intro w hw; rw [p0 w (by omega)]; exact ds_V0 (by decide)
    · intro w hw; rw [p0 w (by omega)]; exact ⟨fun z => absurd z (by decide), fun z => absurd z (by decide)⟩
    · intro w i hw a b
      by_cases q : w = 0
      · subst q
        have e : i = (xtop 0).toInt := by unfold tI at a b; omega
        rw [e]
        have s0 : dF xslo (ds_ix rg 0 (xtop 0).toInt) = 0 := by unfold dF; rw [h4]; decide
        rw [s0]
        have l := hlo 0
        exact ⟨by decide, by omega⟩
      · unfold tI at a b
        rw [h2 w (by omega) q] at b
        omega
    · intro t w i ht hw a b c
      have l := hlo t
      have w0 : w = 0 := by omega
      subst w0
      have e : i = (xtop 0).toInt := by omega
      rw [e]
      have s0 : dF xslo (ds_ix rg 0 (xtop 0).toInt) = 0 := by unfold dF; rw [h4]; decide
      rw [s0]
      have d1 : tI xtop 0 = (xtop 0).toInt := rfl
      have d2 : tI xbot 0 = (xbot 0).toInt := rfl
      exact ⟨by omega, by omega, by omega⟩
    · intro w hw z; rw [p0 w (by omega)] at z; unfold ds_H at z; omega
    · intro t w ht hw z; have l := hlo t; omega
    · intro w hw z; rw [p0 w (by omega)] at z; unfold ds_I at z; omega
    · intro t w ht hw z; have l := hlo t; omega
    · intro w hw
      refine ⟨fun _ => ?_, fun z => by rw [hhn w] at z; omega, fun _ => hhn w⟩
      unfold dF; rw [(h1 w (by omega)).2.1]; exact dN_m
    · intro t w i ht hw z; have l := hlo t; omega
    · intro t ht
      have l := hlo t
      exact Or.inr ⟨0, by omega, Or.inr (Or.inr (Or.inl ⟨(xtop 0).toInt.toNat, by omega, by omega⟩))⟩
    · intro t t' h1 h2 _ _; omega
  · refine ⟨?_, ?_, ?_, ?_, ?_, ?_, ?_⟩
    · intro w hw z; rw [p0 w (by omega)] at z; unfold ds_H at z; omega
    · intro t ht z; have l := hlo t; omega
    · intro t ht _
      have : t = 0 := by omega
      subst this
      rw [kz]
      unfold tI; rw [h5]; rfl
    · intro t ht z; have l := hlo t; omega
    · intro t ht z; have l := hlo t; omega
    · intro w hw z; rw [p0 w (by omega)] at z; omega
    · intro w hw z; rw [p0 w (by omega)] at z; omega
  · refine ⟨by have l := hlo 0; omega, ?_, ?_, ?_, ?_, ?_, ?_⟩
    · intro t ht z; have l := hlo t; omega
    · intro w hw z; rw [p0 w (by omega)] at z; omega
    · intro w hw z; rw [p0 w (by omega)] at z; omega
    · intro t ht _
      have : t = 0 := by omega
      subst this; exact h7
    · intro w hw z; rw [p0 w (by omega)] at z; omega
    · intro t ht z; have l := hlo t; omega
variable {k0 k1 k2 k3 k4 k5 k6 k7 k8 k9 k10 k11 k12 k13 k14 k15 k16 k17 k18 k19 fwc frg flm fst fgv fov ffl fmd fwd : Int32} {xlo xla xlb xll xce xlc xtop xbot xslo xaim xph xcu xhe xit xst xsb xpv xtr xpr xar xpa xfk xlk xnk xow xki xfo xre xbe xck xru xpc xjn xbl xrg xod xnu : Nat → Int32}
theorem xi_clr {post : SX → Prop} (K : ∀ ce' lc' : Nat → Int32, (∀ c, c < 4 → ce' c = 0) → (∀ i, i < 40 → lc' i = 0) → post (k0, k1, k2, k3, k4, k5, k6, k7, k8, k9, k10, k11, k12, k13, k14, k15, k16, k17, k18, k19, fwc, frg, flm, fst, fgv, 0, 0, 0, 0, xlo, xla, xlb, xll, ce', lc', xtop, xbot, xslo, xaim, xph, xcu, xhe, xit, xst, xsb, xpv, xtr, xpr, xar, xpa, xfk, xlk, xnk, xow, xki, xfo, xre, xbe, xck, xru, xpc, xjn, xbl, xrg, xod, xnu)) : wpX_clearOutcomes post (k0, k1, k2, k3, k4, k5, k6, k7, k8, k9, k10, k11, k12, k13, k14, k15, k16, k17, k18, k19, fwc, frg, flm, fst, fgv, fov, ffl, fmd, fwd, xlo, xla, xlb, xll, xce, xlc, xtop, xbot, xslo, xaim, xph, xcu, xhe, xit, xst, xsb, xpv, xtr, xpr, xar, xpa, xfk, xlk, xnk, xow, xki, xfo, xre, xbe, xck, xru, xpc, xjn, xbl, xrg, xod, xnu) := by
  have L2 : ∀ (d i : Nat) (ce' lc' : Nat → Int32), i + d = 40 → (∀ c, c < 4 → ce' c = 0) → (∀ j, j < i → lc' j = 0) → wX_clearOutcomes_42 post k0 k1 k2 k3 k4 k5 k6 k7 k8 k9 k10 k11 k12 k13 k14 k15 k16 k17 k18 k19 fwc frg flm fst fgv 0 0 0 0 (d + 1) (nI i) xlo xla xlb xll ce' lc' xtop xbot xslo xaim xph xcu xhe xit xst xsb xpv xtr xpr xar xpa xfk xlk xnk xow xki xfo xre xbe xck xru xpc xjn xbl xrg xod xnu := by
    intro d
    induction d with
    | zero => intro i ce' lc' h1 h2 h3; exact br_t (nI_le (a := 40) (by omega) (by omega)) (K ce' lc' h2 (fun j hj => h3 j (by omega)))
    | succ d ih =>
      intro i ce' lc' h1 h2 h3
      refine br_f (nI_ge (b := 40) (by omega) (by decide)) ⟨vp_in_nI (by omega) (by decide), nm_e (nm_r (nI_1 i) ?_)⟩
      rw [nI_clamp (by omega)]
      refine ih (i + 1) ce' _ (by omega) h2 (fun j hj => ?_)
      by_cases q : j = i
      · subst q; exact us_s
      · rw [us_n q]; exact h3 j (by omega)
  have L1 : ∀ (d i : Nat) (ce' : Nat → Int32), i + d = 4 → (∀ j, j < i → ce' j = 0) → wX_clearOutcomes_22 post k0 k1 k2 k3 k4 k5 k6 k7 k8 k9 k10 k11 k12 k13 k14 k15 k16 k17 k18 k19 fwc frg flm fst fgv 0 0 0 0 (d + 1) (nI i) xlo xla xlb xll ce' xlc xtop xbot xslo xaim xph xcu xhe xit xst xsb xpv xtr xpr xar xpa xfk xlk xnk xow xki xfo xre xbe xck xru xpc xjn xbl xrg xod xnu := by
    intro d
    induction d with
    | zero => intro i ce' h1 h2; exact br_t (nI_le (a := 4) (by omega) (by omega)) ⟨41, L2 40 0 ce' xlc (by omega) (fun c hc => h2 c (by omega)) (fun j hj => by omega)⟩
    | succ d ih =>
      intro i ce' h1 h2
      refine br_f (nI_ge (b := 4) (by omega) (by decide)) ⟨vp_in_nI (by omega) (by decide), nm_e (nm_r (nI_1 i) ?_)⟩
      rw [nI_clamp (by omega)]
      refine ih (i + 1) _ (by omega) (fun j hj => ?_)
      by_cases q : j = i
      · subst q; exact us_s
      · rw [us_n q]; exact h2 j (by omega)
  exact ⟨5, L1 4 0 xce (by omega) (fun j hj => by omega)⟩
theorem xi_rst {post : SX → Prop} {rg : Nat} (hr : 1 ≤ rg ∧ rg ≤ 8) (hfr : frg = nI rg) (ht : ∀ w, w < 4 → 0 ≤ (xtop w).toInt) (K : ∀ top' bot' ph' cu' he' it' st' sb' pv' tr' : Nat → Int32, (∀ w, w < 4 → ph' w = 0 ∧ he' w = -1 ∧ bot' w = top' w ∧ 0 ≤ (top' w).toInt ∧ (top' w).toInt < rg) → post (k0, k1, k2, k3, k4, k5, k6, k7, k8, k9, k10, k11, k12, k13, k14, k15, k16, k17, k18, k19, fwc, frg, flm, fst, fgv, fov, ffl, fmd, fwd, xlo, xla, xlb, xll, xce, xlc, top', bot', xslo, xaim, ph', cu', he', it', st', sb', pv', tr', xpr, xar, xpa, xfk, xlk, xnk, xow, xki, xfo, xre, xbe, xck, xru, xpc, xjn, xbl, xrg, xod, xnu)) : wpX_resetWorkers post (k0, k1, k2, k3, k4, k5, k6, k7, k8, k9, k10, k11, k12, k13, k14, k15, k16, k17, k18, k19, fwc, frg, flm, fst, fgv, fov, ffl, fmd, fwd, xlo, xla, xlb, xll, xce, xlc, xtop, xbot, xslo, xaim, xph, xcu, xhe, xit, xst, xsb, xpv, xtr, xpr, xar, xpa, xfk, xlk, xnk, xow, xki, xfo, xre, xbe, xck, xru, xpc, xjn, xbl, xrg, xod, xnu) := by
  subst hfr
  have L : ∀ (d i : Nat) (top' bot' ph' cu' he' it' st' sb' pv' tr' : Nat → Int32), i + d = 4 → (∀ w, w < i → ph' w = 0 ∧ he' w = -1 ∧ bot' w = top' w ∧ 0 ≤ (top' w).toInt ∧ (top' w).toInt < rg) → (∀ w, i ≤ w → top' w = xtop w) → wX_resetWorkers_2 post k0 k1 k2 k3 k4 k5 k6 k7 k8 k9 k10 k11 k12 k13 k14 k15 k16 k17 k18 k19 fwc (nI rg) flm fst fgv fov ffl fmd fwd (d + 1) (nI i) xlo xla xlb xll xce xlc top' bot' xslo xaim ph' cu' he' it' st' sb' pv' tr' xpr xar xpa xfk xlk xnk xow xki xfo xre xbe xck xru xpc xjn xbl xrg xod xnu := by
    intro d
    induction d with
    | zero => intro i top' bot' ph' cu' he' it' st' sb' pv' tr' h1 h2 h3; exact br_t (nI_le (a := 4) (by omega) (by omega)) (K _ _ _ _ _ _ _ _ _ _ (fun w hw => h2 w (by omega)))
    | succ d ih =>
      intro i top' bot' ph' cu' he' it' st' sb' pv' tr' h1 h2 h3
      have ii : vp_in (nI i) 4 := vp_in_nI (by omega) (by decide)
      have ci : (nI i).toNatClampNeg = i := nI_clamp (by omega)
      have e0 := ht i (by omega)
      have nn : ¬ xtop i < 0 := by
        rw [Int32.lt_iff_toInt_lt, show (0 : Int32).toInt = 0 from by decide]; omega
      obtain ⟨j, hj, ej⟩ := nI_of nn
      have er : xtop i - xtop i / nI rg * nI rg = nI (j % rg) := by rw [ej]; exact pk_rem hj (by omega) (by omega)
      have ml := Nat.mod_lt j (show 0 < rg by omega)
      unfold wX_resetWorkers_2
      rw [ci, h3 i (Nat.le_refl _), er]
      refine br_f (nI_ge (b := 4) (by omega) (by decide)) ⟨ii, ⟨nI_rg hr, ⟨ii, nm_e ⟨ii, ⟨ii, nm_e ⟨ii, nm_e ⟨ii, nm_e ⟨ii, nm_e ⟨ii, nm_e ⟨ii, nm_e ⟨ii, nm_e ⟨ii, ⟨ii, nm_e ⟨ii, nm_e (nm_r (nI_1 i) (ih (i + 1) _ _ _ _ _ _ _ _ _ _ (by omega) ?_ ?_))⟩⟩⟩⟩⟩⟩⟩⟩⟩⟩⟩⟩⟩⟩
      · intro w hw
        by_cases q : w = i
        · subst q
          rw [us_s, us_s, us_s, us_s, nI_toInt (by omega)]
          exact ⟨rfl, rfl, rfl, by omega, by omega⟩
        · rw [us_n q, us_n q, us_n q, us_n q]; exact h2 w (by omega)
      · intro w hw; rw [us_n (by omega)]; exact h3 w (by omega)
  exact ⟨5, L 4 0 _ _ _ _ _ _ _ _ _ _ (by omega) (fun w hw => by omega) (fun w _ => rfl)⟩
theorem xt_0 {g : zl_G} {p : zl_P} {kx : Nat → Nat} {kid : Nat → Nat → Nat} {par : Nat → Nat} {xce' xlc' : Nat → Int32} (h1 : ∀ c, c < 4 → xce' c = 0) (h2 : ∀ i, i < 40 → xlc' i = 0) (hpr : xpr 0 = nI p.1) (har : xar 0 = p.2.1) (hbe : xbe 0 = p.2.2) (hpa : xpa 0 = -1) (hfk : xfk 0 = -1) (hnk : xnk 0 = -1) (how : xow 0 = -1) (hki : xki 0 = 0) (hfo : xfo 0 = 0) (hre : xre 0 = 0) (hck : xck 0 = p.2.2) (hru : xru 0 = 0) (hpc : xpc 0 = 0) (hr0 : xrg 0 = p.2.1) (hr1 : xrg 1 = 0) (hr2 : xrg 2 = 0) (hr3 : xrg 3 = 0) : xt_T 1 (fun _ => zl_ini p) par kx kid (fun _ => p) (0 + 1) 0 xce' xlc' xpr xar xpa xfk xlk xnk xow xki xfo xre xbe xck xru xpc xrg := by
  have z : ∀ {P : Nat → Prop}, P 0 → ∀ t, t < 1 → P t := fun h t ht => by
    have : t = 0 := by omega
    subst this; exact h
  refine ⟨rfl, rfl, fun c hc => h1 c hc, fun i hi => h2 i hi, z hpr, z har, z hbe, z hpa, z hfk, z (fun y => absurd y (Nat.lt_irrefl 0)), z hnk, z how, z hki, z hfo, z hre, z hck, z hru, z hpc, ?_⟩
  intro t r ht hr
  have : t = 0 := by omega
  subst this
  have rc : r = 0 ∨ r = 1 ∨ r = 2 ∨ r = 3 := by omega
  rcases rc with rfl | rfl | rfl | rfl
  · exact hr0
  · exact hr1
  · exact hr2
  · exact hr3
end
end
section
/-! start and settle, whole -/
section
variable {k0 k1 k2 k3 k4 k5 k6 k7 k8 k9 k10 k11 k12 k13 k14 k15 k16 k17 k18 k19 fwc frg flm fst fgv fov ffl fmd fwd : Int32} {xlo xla xlb xll xce xlc xtop xbot xslo xaim xph xcu xhe xit xst xsb xpv xtr xpr xar xpa xfk xlk xnk xow xki xfo xre xbe xck xru xpc xjn xbl xrg xod xnu : Nat → Int32} {wc rg lim : Nat} {post : Int32 → SX → Prop}
theorem cl_0 : (0 : Int32).toNatClampNeg = 0 ∧ ((0 : Int32) + 1).toNatClampNeg = 1 ∧ ((0 : Int32) + 2).toNatClampNeg = 2 ∧ ((0 : Int32) + 3).toNatClampNeg = 3 := by decide
theorem xi_start (C : xr_C wc rg lim xaim xlo xla xlb xll) (e1 : fwc = nI wc) (e2 : frg = nI rg) (e3 : flm = nI lim) (hs : ¬ fst = 1) {pr : Nat} (hp : pr < 4) {arg : Int32} (ht : ∀ w, w < 4 → 0 ≤ (xtop w).toInt ∧ (xtop w).toInt ≤ 100) (K : ∀ (u' : SX) (μ : Nat) (ph : Nat → Int32), xr_R wc rg lim 1 0 xaim xlo xla xlb xll (pr, arg, 0) 0 μ ph u' → post 0 u') : wpX_start post (k0, k1, k2, k3, k4, k5, k6, k7, k8, k9, k10, k11, k12, k13, k14, k15, k16, k17, k18, k19, fwc, frg, flm, fst, fgv, fov, ffl, fmd, fwd, xlo, xla, xlb, xll, xce, xlc, xtop, xbot, xslo, xaim, xph, xcu, xhe, xit, xst, xsb, xpv, xtr, xpr, xar, xpa, xfk, xlk, xnk, xow, xki, xfo, xre, xbe, xck, xru, xpc, xjn, xbl, xrg, xod, xnu) (nI pr) arg := by
  obtain ⟨c1, c2, c3, c4, c5, c6, c7, c8⟩ := id C
  obtain ⟨k0, k1, k2, k3⟩ := cl_0
  refine br_f hs (br_f (nI_pos (by omega)) (br_t (nI_lt (b := 4) hp (by decide)) (xi_clr ?_)))
  intro ce' lc' h1 h2
  refine xi_rst c3 e2 (fun w hw => (ht w hw).1) ?_
  intro top' bot' ph' cu' he' it' st' sb' pv' tr' h3
  obtain ⟨a1, a2, a3, a4, a5⟩ := h3 0 (by omega)
  refine xl_make (b := 0) (vp_in_iff.mpr (by decide)) rfl ⟨vp_in_iff.mpr (by decide), vp_in_iff.mpr (by decide), vp_in_iff.mpr (by decide), vp_in_iff.mpr (by decide)⟩ ?_
  have b4 : 0 ≤ (bot' 0).toInt := by rw [a3]; exact a4
  have es : (0 : Int32) * 8 + (bot' 0 - bot' 0 / frg * frg) = nI (ds_ix rg 0 (bot' 0).toInt) := by rw [e2]; exact ds_slotI (w := 0) c3 (by decide) b4
  have ix := ds_ixb (rg := rg) (w := 0) (i := (bot' 0).toInt) c3 (by omega)
  have ci : (nI (ds_ix rg 0 (bot' 0).toInt)).toNatClampNeg = ds_ix rg 0 (bot' 0).toInt := nI_clamp (by omega)
  refine xw_slot (by rw [e2]; exact nI_rg c3) es ⟨vp_in_nI ix (by decide), nm_e (nm_e ?_)⟩
  rw [ci, k0, k1, k2, k3]
  have bt1 : (bot' 0 + 1).toInt = (top' 0).toInt + 1 := by rw [a3]; exact ii_p (by omega)
  obtain ⟨mu, S⟩ := xs_init (wc := wc) (rg := rg) (par := fun _ => 0) (dn := fun t => zl_dn (zl_ini (pr, arg, 0)) = true) (wt := fun t => zl_w (xlo, xla, xlb, fun p => (xll p).toNatClampNeg) (zl_ini (pr, arg, 0))) (xtop := top') (xbot := upd bot' 0 (bot' 0 + 1)) (xslo := upd xslo (ds_ix rg 0 (bot' 0).toInt) 0) (xph := ph') (xcu := cu') (xhe := he') (xit := it') (xst := st') (xsb := sb') (xpv := pv') (xjn := upd xjn 0 1) (xbl := upd xbl 0 (-1)) ⟨c1, c2⟩ c3 (fun w hw => by
      obtain ⟨x1, x2, x3, x4, x5⟩ := h3 w hw
      exact ⟨x1, x2, x4, x5⟩) (fun w hw q => by rw [us_n q]; exact (h3 w hw).2.2.1) (by rw [us_s]; exact bt1) (by rw [a3, us_s]) us_s (fun z => absurd (show false = true from z) (by decide))
  refine K _ (xr_M lim 1 (fun _ => zl_ini (pr, arg, 0)) mu) ph' ⟨⟨e1, e2, e3, rfl, rfl, rfl, rfl, rfl, rfl, rfl, rfl, rfl⟩, ?_, 1, fun _ => zl_ini (pr, arg, 0), fun _ => 0, fun _ => 0, fun _ _ => 0, fun _ => (pr, arg, 0), ⟨c4, rfl, fun _ _ => hp, zg_0 _ (pr, arg, 0) rfl _ _ _ rfl, ?_⟩, Or.inl ⟨rfl, rfl, mu, rfl, S⟩⟩
  · intro w hw
    obtain ⟨x1, x2, x3, x4, x5⟩ := h3 w hw
    exact ⟨x4, by omega⟩
  · exact xt_0 (g := (xlo, xla, xlb, fun p => (xll p).toNatClampNeg)) (p := (pr, arg, 0)) h1 h2 us_s us_s us_s us_s us_s us_s us_s us_s us_s us_s us_s us_s us_s (by rw [us_n (by decide), us_n (by decide), us_n (by decide), us_s]) (by rw [us_n (by decide), us_n (by decide), us_s]) (by rw [us_n (by decide), us_s]) us_s
theorem xi_settle {gv : Int32} {ai lO lA lB lL : Nat → Int32} {p : zl_P} {ov : Int32} {μ : Nat} {ph : Nat → Int32} (C : xr_C wc rg lim ai lO lA lB lL) (h : xr_R wc rg lim 1 gv ai lO lA lB lL p ov μ ph (k0, k1, k2, k3, k4, k5, k6, k7, k8, k9, k10, k11, k12, k13, k14, k15, k16, k17, k18, k19, fwc, frg, flm, fst, fgv, fov, ffl, fmd, fwd, xlo, xla, xlb, xll, xce, xlc, xtop, xbot, xslo, xaim, xph, xcu, xhe, xit, xst, xsb, xpv, xtr, xpr, xar, xpa, xfk, xlk, xnk, xow, xki, xfo, xre, xbe, xck, xru, xpc, xjn, xbl, xrg, xod, xnu))
    (KD : ∀ (k0 k1 k2 k3 k4 k5 k6 k7 k8 k9 k10 k11 k12 k13 k14 k15 k16 k17 k18 k19 fwc frg flm fst fgv fov ffl fmd fwd : Int32) (xlo xla xlb xll xce xlc xtop xbot xslo xaim xph xcu xhe xit xst xsb xpv xtr xpr xar xpa xfk xlk xnk xow xki xfo xre xbe xck xru xpc xjn xbl xrg xod xnu : Nat → Int32), fwc = nI wc → frg = nI rg → flm = nI lim → fgv = gv → xaim = ai → xlo = lO → xla = lA → xlb = lB → xll = lL → (∀ w, w < 4 → 0 ≤ (xtop w).toInt ∧ (xtop w).toInt ≤ 100) → ∀ (m : Nat) (st : Nat → zl_T) (par kx : Nat → Nat) (kid : Nat → Nat → Nat) (pm : Nat → zl_P), xr_T (lO, lA, lB, fun p => (lL p).toNatClampNeg) lim p m st par kx kid pm fmd fwd xce xlc xpr xar xpa xfk xlk xnk xow xki xfo xre xbe xck xru xpc xrg → (∀ t, t < m → zl_dn (st t) = true) → ∀ e, e ≤ m → (e = m ∨ xf_sq xfk xnk xpa e < 0) → post 0 (k0, k1, k2, k3, k4, k5, k6, k7, k8, k9, k10, k11, k12, k13, k14, k15, k16, k17, k18, k19, fwc, frg, flm, 2, fgv, fov, ffl, fmd, fwd, xlo, xla, xlb, xll, xce, xlc, xtop, xbot, xslo, xaim, xph, xcu, xhe, xit, xst, xsb, xpv, xtr, xpr, xar, xpa, xfk, xlk, xnk, xow, xki, xfo, xre, xbe, xck, xru, xpc, xjn, xbl, xrg, xn_o (xf_sq xfk xnk xpa) xod e, xn_n (xf_sq xfk xnk xpa) xnu e))
    (KF : ∀ (k0 k1 k2 k3 k4 k5 k6 k7 k8 k9 k10 k11 k12 k13 k14 k15 k16 k17 k18 k19 fwc frg flm fst fgv fov ffl fmd fwd : Int32) (xlo xla xlb xll xce xlc xtop xbot xslo xaim xph xcu xhe xit xst xsb xpv xtr xpr xar xpa xfk xlk xnk xow xki xfo xre xbe xck xru xpc xjn xbl xrg xod xnu : Nat → Int32), fwc = nI wc → frg = nI rg → flm = nI lim → fgv = gv → xaim = ai → xlo = lO → xla = lA → xlb = lB → xll = lL → (∀ w, w < 4 → 0 ≤ (xtop w).toInt ∧ (xtop w).toInt ≤ 100) → ∀ (m : Nat) (st : Nat → zl_T) (par kx : Nat → Nat) (kid : Nat → Nat → Nat) (pm : Nat → zl_P), xr_T (lO, lA, lB, fun p => (lL p).toNatClampNeg) lim p m st par kx kid pm fmd fwd xce xlc xpr xar xpa xfk xlk xnk xow xki xfo xre xbe xck xru xpc xrg → m = lim → (∃ t, t < m ∧ zl_dn (st t) = false ∧ zl_s (lO, lA, lB, fun p => (lL p).toNatClampNeg) (st t)) → post (-5) (k0, k1, k2, k3, k4, k5, k6, k7, k8, k9, k10, k11, k12, k13, k14, k15, k16, k17, k18, k19, fwc, frg, flm, 3, fgv, fov, ffl, fmd, fwd, xlo, xla, xlb, xll, xce, xlc, xtop, xbot, xslo, xaim, xph, xcu, xhe, xit, xst, xsb, xpv, xtr, xpr, xar, xpa, xfk, xlk, xnk, xow, xki, xfo, xre, xbe, xck, xru, xpc, xjn, xbl, xrg, xod, xnu)) : wpX_settle post (k0, k1, k2, k3, k4, k5, k6, k7, k8, k9, k10, k11, k12, k13, k14, k15, k16, k17, k18, k19, fwc, frg, flm, fst, fgv, fov, ffl, fmd, fwd, xlo, xla, xlb, xll, xce, xlc, xtop, xbot, xslo, xaim, xph, xcu, xhe, xit, xst, xsb, xpv, xtr, xpr, xar, xpa, xfk, xlk, xnk, xow, xki, xfo, xre, xbe, xck, xru, xpc, xjn, xbl, xrg, xod, xnu) := by
  have fin : ∀ (u' : SX) (μ' : Nat) (ph' : Nat → Int32), xr_R wc rg lim 1 gv ai lO lA lB lL p 1 μ' ph' u' → (match u' with | (k0, k1, k2, k3, k4, k5, k6, k7, k8, k9, k10, k11, k12, k13, k14, k15, k16, k17, k18, k19, fwc, frg, flm, fst, fgv, fov, ffl, fmd, fwd, xlo, xla, xlb, xll, xce, xlc, xtop, xbot, xslo, xaim, xph, xcu, xhe, xit, xst, xsb, xpv, xtr, xpr, xar, xpa, xfk, xlk, xnk, xow, xki, xfo, xre, xbe, xck, xru, xpc, xjn, xbl, xrg, xod, xnu) => wX_settle_53 post k0 k1 k2 k3 k4 k5 k6 k7 k8 k9 k10 k11 k12 k13 k14 k15 k16 k17 k18 k19 fwc frg flm fst fgv fov ffl fmd fwd xlo xla xlb xll xce xlc xtop xbot xslo xaim xph xcu xhe xit xst xsb xpv xtr xpr xar xpa xfk xlk xnk xow xki xfo xre xbe xck xru xpc xjn xbl xrg xod xnu) := by
    intro u' μ' ph'
    refine xw_eta (P := fun u' => xr_R wc rg lim 1 gv ai lO lA lB lL p 1 μ' ph' u' → (match u' with | (k0, k1, k2, k3, k4, k5, k6, k7, k8, k9, k10, k11, k12, k13, k14, k15, k16, k17, k18, k19, fwc, frg, flm, fst, fgv, fov, ffl, fmd, fwd, xlo, xla, xlb, xll, xce, xlc, xtop, xbot, xslo, xaim, xph, xcu, xhe, xit, xst, xsb, xpv, xtr, xpr, xar, xpa, xfk, xlk, xnk, xow, xki, xfo, xre, xbe, xck, xru, xpc, xjn, xbl, xrg, xod, xnu) => wX_settle_53 post k0 k1 k2 k3 k4 k5 k6 k7 k8 k9 k10 k11 k12 k13 k14 k15 k16 k17 k18 k19 fwc frg flm fst fgv fov ffl fmd fwd xlo xla xlb xll xce xlc xtop xbot xslo xaim xph xcu xhe xit xst xsb xpv xtr xpr xar xpa xfk xlk xnk xow xki xfo xre xbe xck xru xpc xjn xbl xrg xod xnu)) ?_ u'
    intro k0 k1 k2 k3 k4 k5 k6 k7 k8 k9 k10 k11 k12 k13 k14 k15 k16 k17 k18 k19 fwc frg flm fst fgv fov ffl fmd fwd xlo xla xlb xll xce xlc xtop xbot xslo xaim xph xcu xhe xit xst xsb xpv xtr xpr xar xpa xfk xlk xnk xow xki xfo xre xbe xck xru xpc xjn xbl xrg xod xnu
    rintro ⟨⟨e1, e2, e3, e4, e5, e6, e7, e8, e9, e10, e11, e12⟩, tops, m, st, par, kx, kid, pm, R, H⟩
    have hm : m ≤ 48 := by have := R.1; have := C.2.2.2.2.1; omega
    rcases H with ⟨ho, _⟩ | ⟨_, hf, D⟩ | ⟨_, hf, ml, D⟩
    · exact absurd ho (by decide)
    · refine br_t hf (xf_num (m := m) ?_ ?_ ?_ R.2.2.2.1.1 hm R.2.2.2.2.1 ?_)
      · intro a ha
        rw [R.2.2.2.2.2.2.2.2.2.2.2.2.1 a ha]
        by_cases q : 0 < zl_nk (st a)
        · rw [if_pos q]; exact Or.inr ⟨_, (R.2.2.2.1.2.2.1 a 0 ha q).2.1, rfl⟩
        · rw [if_neg q]; exact Or.inl (by decide)
      · intro a ha
        rw [R.2.2.2.2.2.2.2.2.2.2.2.2.2.2.1 a ha]
        by_cases q : 0 < a ∧ kx a + 1 < zl_nk (st (par a))
        · rw [if_pos q]
          have := (R.2.2.2.1.2.1 a q.1 ha).1
          exact Or.inr ⟨_, (R.2.2.2.1.2.2.1 (par a) _ (by omega) q.2).2.1, rfl⟩
        · rw [if_neg q]; exact Or.inl (by decide)
      · intro a ha
        rw [R.2.2.2.2.2.2.2.2.2.2.2.1 a ha]
        by_cases q : a = 0
        · rw [if_pos q]; exact Or.inl (by decide)
        · rw [if_neg q]
          have := (R.2.2.2.1.2.1 a (by omega) ha).1
          exact Or.inr ⟨_, by omega, rfl⟩
      · intro e he hee
        exact KD k0 k1 k2 k3 k4 k5 k6 k7 k8 k9 k10 k11 k12 k13 k14 k15 k16 k17 k18 k19 fwc frg flm fst fgv fov ffl fmd fwd xlo xla xlb xll xce xlc xtop xbot xslo xaim xph xcu xhe xit xst xsb xpv xtr xpr xar xpa xfk xlk xnk xow xki xfo xre xbe xck xru xpc xjn xbl xrg xod xnu e1 e2 e3 e5 e6 e7 e8 e9 e10 tops m st par kx kid pm R D e he hee
    · exact br_f (by rw [hf]; decide) (KF k0 k1 k2 k3 k4 k5 k6 k7 k8 k9 k10 k11 k12 k13 k14 k15 k16 k17 k18 k19 fwc frg flm fst fgv fov ffl fmd fwd xlo xla xlb xll xce xlc xtop xbot xslo xaim xph xcu xhe xit xst xsb xpv xtr xpr xar xpa xfk xlk xnk xow xki xfo xre xbe xck xru xpc xjn xbl xrg xod xnu e1 e2 e3 e5 e6 e7 e8 e9 e10 tops m st par kx kid pm R ml D)
  have L := xr_out (post := post) C fin 20000 0 (k0, k1, k2, k3, k4, k5, k6, k7, k8, k9, k10, k11, k12, k13, k14, k15, k16, k17, k18, k19, fwc, frg, flm, fst, fgv, fov, ffl, fmd, fwd, xlo, xla, xlb, xll, xce, xlc, xtop, xbot, xslo, xaim, xph, xcu, xhe, xit, xst, xsb, xpv, xtr, xpr, xar, xpa, xfk, xlk, xnk, xow, xki, xfo, xre, xbe, xck, xru, xpc, xjn, xbl, xrg, xod, xnu) ov μ ph (by omega) h (fun z => by subst z; exact xr_bd C.2.2.2.2.1 h)
  exact br_t h.1.2.2.2.1 ⟨20001, L⟩
end
section
variable {gwc grg glm gst ggv grp gra gmd gtr : Int32} {yvi yli yco ypr yar ypa yre ybe yck ynx you yfo yrg yce ytp ytl : Nat → Int32}
theorem yi_settle {post : Int32 → SY → Prop} {g : zl_G} {lim pr : Nat} (PG : zl_pg g) (Y : yr_G g yli yco) (h1 : 1 ≤ lim) (hlim : lim ≤ 48) (elm : glm = nI lim) (est : gst = 1) (hp : pr < 4) (erp : grp = nI pr)
    (finF : ∀ (m : Nat) (st : Nat → zl_T) (par kx : Nat → Nat) (kid : Nat → Nat → Nat) (pm : Nat → zl_P) (t : Nat) (gmd gtr : Int32) (ypr yar ypa yre ybe yck ynx you yfo yrg yce ytp ytl : Nat → Int32), m = lim → pm 0 = (pr, gra, 0) → zg_G g m st par kx kid pm → t < m → zl_dn (st t) = false → zl_s g (st t) → post (-5) (gwc, grg, glm, 3, ggv, grp, gra, gmd, gtr, yvi, yli, yco, ypr, yar, ypa, yre, ybe, yck, ynx, you, yfo, yrg, yce, ytp, ytl))
    (finD : ∀ (m : Nat) (st : Nat → zl_T) (par kx : Nat → Nat) (kid : Nat → Nat → Nat) (pm : Nat → zl_P) (gmd gtr : Int32) (ypr yar ypa yre ybe yck ynx you yfo yrg yce ytp ytl : Nat → Int32), yr_T g lim (pr, gra, 0) m st par kx kid pm gmd gtr ypr yar ypa yre ybe yck ynx you yfo yrg yce ytp ytl → (∀ t, t < m → zl_dn (st t) = true) → post 0 (gwc, grg, glm, 2, ggv, grp, gra, gmd, gtr, yvi, yli, yco, ypr, yar, ypa, yre, ybe, yck, ynx, you, yfo, yrg, yce, ytp, ytl)) : wpY_settle post (gwc, grg, glm, gst, ggv, grp, gra, gmd, gtr, yvi, yli, yco, ypr, yar, ypa, yre, ybe, yck, ynx, you, yfo, yrg, yce, ytp, ytl) := by
  have L : ∀ (d i : Nat) (ce' : Nat → Int32), i + d = 4 → (∀ j, j < i → ce' j = 0) → wY_settle_23 post gwc grg glm gst ggv grp gra 0 0 (d + 1) (nI i) yvi yli yco ypr yar ypa yre ybe yck ynx you yfo yrg ce' ytp ytl := by
    intro d
    induction d with
    | zero =>
      intro i ce' hi hc
      refine br_t (nI_le (a := 4) (by omega) (by omega)) ?_
      refine yw_make (m := 0) (by decide) rfl ?_
      refine ⟨577, ?_⟩
      have rp : yr_P lim 1 (fun _ => zl_ini (pr, gra, 0)) ≤ 576 := by
        unfold yr_P
        have : sn_s (fun t => zl_rem ((fun _ => zl_ini (pr, gra, 0)) t)) 1 = 12 := rfl
        rw [this]
        omega
      refine yr_main (g := g) (lim := lim) (p := (pr, gra, 0)) PG Y hlim elm finF finD 577 0 1 (fun _ => zl_ini (pr, gra, 0)) (fun _ => 0) (fun _ => 0) (fun _ _ => 0) (fun _ => (pr, gra, 0)) 0 _ _ _ _ _ _ _ _ _ _ _ _ _ _ _ (by omega) (by omega) ⟨h1, rfl, fun _ _ => hp, zg_0 _ (pr, gra, 0) rfl _ _ _ rfl, ?_, fun n hn => by omega⟩ ⟨by decide, rfl, fun t a b => by omega, fun k hk => absurd hk (Nat.not_lt_zero _), 0, fun _ => 0, rfl, rfl, fun i hi => by omega⟩
      have z : ∀ {P : Nat → Prop}, P 0 → ∀ t, t < 1 → P t := fun h t ht => by
        have : t = 0 := by omega
        subst this; exact h
      refine ⟨rfl, rfl, fun c hc2 => hc c (by omega), z ?_, z us_s, z us_s, z us_s, z us_s, z us_s, z (fun _ => us_s), z us_s, z us_s, ?_, fun _ _ _ _ => rfl, fun i hi => absurd hi (Nat.not_lt_zero _)⟩
      · rw [us_s]; exact erp
      · intro t r ht hr
        have : t = 0 := by omega
        subst this
        have rc : r = 0 ∨ r = 1 ∨ r = 2 ∨ r = 3 := by omega
        rcases rc with rfl | rfl | rfl | rfl
        · exact us_s
        · rw [us_n (by decide), us_n (by decide), us_n (by decide)]; exact us_s
        · rw [us_n (by decide), us_n (by decide)]; exact us_s
        · rw [us_n (by decide)]; exact us_s
    | succ d ih =>
      intro i ce' hi hc
      refine br_f (nI_ge (b := 4) (by omega) (by decide)) ⟨vp_in_nI (by omega) (by decide), nm_e (nm_r (nI_1 i) ?_)⟩
      rw [nI_clamp (by omega)]
      refine ih (i + 1) _ (by omega) (fun j hj => ?_)
      by_cases q : j = i
      · subst q; exact us_s
      · rw [us_n q]; exact hc j (by omega)
  exact br_t est ⟨5, L 4 0 yce (by omega) (fun j hj => by omega)⟩
end
end
section
/-! the relation -/
section
/-- equal sizes, program, victims, status and turns; while a run is on, the component's run is a good one of the reference's root; when it is done, the outcomes agree -/
def i_Rel (_k : Nat) (u : SX) (v : SY) : Prop := match u with
  | (k0, k1, k2, k3, k4, k5, k6, k7, k8, k9, k10, k11, k12, k13, k14, k15, k16, k17, k18, k19, fwc, frg, flm, fst, fgv, fov, ffl, fmd, fwd, xlo, xla, xlb, xll, xce, xlc, xtop, xbot, xslo, xaim, xph, xcu, xhe, xit, xst, xsb, xpv, xtr, xpr, xar, xpa, xfk, xlk, xnk, xow, xki, xfo, xre, xbe, xck, xru, xpc, xjn, xbl, xrg, xod, xnu) => match v with
    | (gwc, grg, glm, gst, ggv, grp, gra, gmd, gtr, yvi, yli, yco, ypr, yar, ypa, yre, ybe, yck, ynx, you, yfo, yrg, yce, ytp, ytl) => ∃ wc rg lim : Nat, (fwc = nI wc ∧ gwc = nI wc ∧ frg = nI rg ∧ grg = nI rg ∧ flm = nI lim ∧ glm = nI lim ∧ gst = fst ∧ ggv = fgv) ∧ xr_C wc rg lim xaim xlo xla xlb xll ∧ (∀ w, w < wc → yvi w = xaim w) ∧ yr_G (xlo, xla, xlb, fun p => (xll p).toNatClampNeg) yli yco ∧ (∀ w, w < 4 → 0 ≤ (xtop w).toInt ∧ (xtop w).toInt ≤ 100) ∧ (fst = 1 → ∃ (pr : Nat) (ov : Int32) (μ : Nat), pr < 4 ∧ grp = nI pr ∧ xr_R wc rg lim 1 fgv xaim xlo xla xlb xll (pr, gra, 0) ov μ xph (k0, k1, k2, k3, k4, k5, k6, k7, k8, k9, k10, k11, k12, k13, k14, k15, k16, k17, k18, k19, fwc, frg, flm, fst, fgv, fov, ffl, fmd, fwd, xlo, xla, xlb, xll, xce, xlc, xtop, xbot, xslo, xaim, xph, xcu, xhe, xit, xst, xsb, xpv, xtr, xpr, xar, xpa, xfk, xlk, xnk, xow, xki, xfo, xre, xbe, xck, xru, xpc, xjn, xbl, xrg, xod, xnu)) ∧ (fst = 2 → dn_R fmd fwd gmd gtr xce xlc xpr xar xpa xki xfo xre xbe xck xru xod xnu ypr yar ypa yre ybe yck yfo yce ytp ytl)
theorem i_up {k : Nat} {u : SX} {v : SY} (h : i_Rel k u v) : i_Rel (k + 5) u v := h
theorem zz_el {k : Nat} {P : SX → SY → Prop} (h : ∀ (k0 k1 k2 k3 k4 k5 k6 k7 k8 k9 k10 k11 k12 k13 k14 k15 k16 k17 k18 k19 fwc frg flm fst fgv fov ffl fmd fwd : Int32) (xlo xla xlb xll xce xlc xtop xbot xslo xaim xph xcu xhe xit xst xsb xpv xtr xpr xar xpa xfk xlk xnk xow xki xfo xre xbe xck xru xpc xjn xbl xrg xod xnu : Nat → Int32) (gwc grg glm gst ggv grp gra gmd gtr : Int32) (yvi yli yco ypr yar ypa yre ybe yck ynx you yfo yrg yce ytp ytl : Nat → Int32), i_Rel k (k0, k1, k2, k3, k4, k5, k6, k7, k8, k9, k10, k11, k12, k13, k14, k15, k16, k17, k18, k19, fwc, frg, flm, fst, fgv, fov, ffl, fmd, fwd, xlo, xla, xlb, xll, xce, xlc, xtop, xbot, xslo, xaim, xph, xcu, xhe, xit, xst, xsb, xpv, xtr, xpr, xar, xpa, xfk, xlk, xnk, xow, xki, xfo, xre, xbe, xck, xru, xpc, xjn, xbl, xrg, xod, xnu) (gwc, grg, glm, gst, ggv, grp, gra, gmd, gtr, yvi, yli, yco, ypr, yar, ypa, yre, ybe, yck, ynx, you, yfo, yrg, yce, ytp, ytl) → P (k0, k1, k2, k3, k4, k5, k6, k7, k8, k9, k10, k11, k12, k13, k14, k15, k16, k17, k18, k19, fwc, frg, flm, fst, fgv, fov, ffl, fmd, fwd, xlo, xla, xlb, xll, xce, xlc, xtop, xbot, xslo, xaim, xph, xcu, xhe, xit, xst, xsb, xpv, xtr, xpr, xar, xpa, xfk, xlk, xnk, xow, xki, xfo, xre, xbe, xck, xru, xpc, xjn, xbl, xrg, xod, xnu) (gwc, grg, glm, gst, ggv, grp, gra, gmd, gtr, yvi, yli, yco, ypr, yar, ypa, yre, ybe, yck, ynx, you, yfo, yrg, yce, ytp, ytl)) {u : SX} {v : SY} (I : i_Rel k u v) : P u v := by
  revert I
  refine xw_eta (P := fun u => i_Rel k u v → P u v) ?_ u
  intro k0 k1 k2 k3 k4 k5 k6 k7 k8 k9 k10 k11 k12 k13 k14 k15 k16 k17 k18 k19 fwc frg flm fst fgv fov ffl fmd fwd xlo xla xlb xll xce xlc xtop xbot xslo xaim xph xcu xhe xit xst xsb xpv xtr xpr xar xpa xfk xlk xnk xow xki xfo xre xbe xck xru xpc xjn xbl xrg xod xnu
  refine yw_eta (P := fun v => i_Rel k (k0, k1, k2, k3, k4, k5, k6, k7, k8, k9, k10, k11, k12, k13, k14, k15, k16, k17, k18, k19, fwc, frg, flm, fst, fgv, fov, ffl, fmd, fwd, xlo, xla, xlb, xll, xce, xlc, xtop, xbot, xslo, xaim, xph, xcu, xhe, xit, xst, xsb, xpv, xtr, xpr, xar, xpa, xfk, xlk, xnk, xow, xki, xfo, xre, xbe, xck, xru, xpc, xjn, xbl, xrg, xod, xnu) v → P (k0, k1, k2, k3, k4, k5, k6, k7, k8, k9, k10, k11, k12, k13, k14, k15, k16, k17, k18, k19, fwc, frg, flm, fst, fgv, fov, ffl, fmd, fwd, xlo, xla, xlb, xll, xce, xlc, xtop, xbot, xslo, xaim, xph, xcu, xhe, xit, xst, xsb, xpv, xtr, xpr, xar, xpa, xfk, xlk, xnk, xow, xki, xfo, xre, xbe, xck, xru, xpc, xjn, xbl, xrg, xod, xnu) v) ?_ v
  intro gwc grg glm gst ggv grp gra gmd gtr yvi yli yco ypr yar ypa yre ybe yck ynx you yfo yrg yce ytp ytl I
  exact h k0 k1 k2 k3 k4 k5 k6 k7 k8 k9 k10 k11 k12 k13 k14 k15 k16 k17 k18 k19 fwc frg flm fst fgv fov ffl fmd fwd xlo xla xlb xll xce xlc xtop xbot xslo xaim xph xcu xhe xit xst xsb xpv xtr xpr xar xpa xfk xlk xnk xow xki xfo xre xbe xck xru xpc xjn xbl xrg xod xnu gwc grg glm gst ggv grp gra gmd gtr yvi yli yco ypr yar ypa yre ybe yck ynx you yfo yrg yce ytp ytl I
end
end
section
/-! the calls that only read, and the small ones -/
section
theorem i_vc_status {k : Nat} {u : SX} {v : SY} (I : i_Rel k u v) (hk : k + 5 ≤ 2563) : wpX_status (fun r => wpY_status (fun r' => r' = r ∧ i_Rel (k + 5) u v) v) u := by
  refine zz_el (P := fun u v => wpX_status (fun r => wpY_status (fun r' => r' = r ∧ i_Rel (k + 5) u v) v) u) ?_ I
  intro k0 k1 k2 k3 k4 k5 k6 k7 k8 k9 k10 k11 k12 k13 k14 k15 k16 k17 k18 k19 fwc frg flm fst fgv fov ffl fmd fwd xlo xla xlb xll xce xlc xtop xbot xslo xaim xph xcu xhe xit xst xsb xpv xtr xpr xar xpa xfk xlk xnk xow xki xfo xre xbe xck xru xpc xjn xbl xrg xod xnu gwc grg glm gst ggv grp gra gmd gtr yvi yli yco ypr yar ypa yre ybe yck ynx you yfo yrg yce ytp ytl I
  obtain ⟨wc, rg, lim, ⟨e1, e2, e3, e4, e5, e6, e7, e8⟩, _⟩ := id I
  exact ⟨e7, I⟩
theorem i_vc_turnsGiven {k : Nat} {u : SX} {v : SY} (I : i_Rel k u v) (hk : k + 5 ≤ 2563) : wpX_turnsGiven (fun r => wpY_turnsGiven (fun r' => r' = r ∧ i_Rel (k + 5) u v) v) u := by
  refine zz_el (P := fun u v => wpX_turnsGiven (fun r => wpY_turnsGiven (fun r' => r' = r ∧ i_Rel (k + 5) u v) v) u) ?_ I
  intro k0 k1 k2 k3 k4 k5 k6 k7 k8 k9 k10 k11 k12 k13 k14 k15 k16 k17 k18 k19 fwc frg flm fst fgv fov ffl fmd fwd xlo xla xlb xll xce xlc xtop xbot xslo xaim xph xcu xhe xit xst xsb xpv xtr xpr xar xpa xfk xlk xnk xow xki xfo xre xbe xck xru xpc xjn xbl xrg xod xnu gwc grg glm gst ggv grp gra gmd gtr yvi yli yco ypr yar ypa yre ybe yck ynx you yfo yrg yce ytp ytl I
  obtain ⟨wc, rg, lim, ⟨e1, e2, e3, e4, e5, e6, e7, e8⟩, _⟩ := id I
  exact ⟨e8, I⟩
theorem i_vc_workers {k : Nat} {u : SX} {v : SY} (I : i_Rel k u v) (hk : k + 5 ≤ 2563) : wpX_workers (fun r => wpY_workers (fun r' => r' = r ∧ i_Rel (k + 5) u v) v) u := by
  refine zz_el (P := fun u v => wpX_workers (fun r => wpY_workers (fun r' => r' = r ∧ i_Rel (k + 5) u v) v) u) ?_ I
  intro k0 k1 k2 k3 k4 k5 k6 k7 k8 k9 k10 k11 k12 k13 k14 k15 k16 k17 k18 k19 fwc frg flm fst fgv fov ffl fmd fwd xlo xla xlb xll xce xlc xtop xbot xslo xaim xph xcu xhe xit xst xsb xpv xtr xpr xar xpa xfk xlk xnk xow xki xfo xre xbe xck xru xpc xjn xbl xrg xod xnu gwc grg glm gst ggv grp gra gmd gtr yvi yli yco ypr yar ypa yre ybe yck ynx you yfo yrg yce ytp ytl I
  obtain ⟨wc, rg, lim, ⟨e1, e2, e3, e4, e5, e6, e7, e8⟩, _⟩ := id I
  exact ⟨e2.trans e1.symm, I⟩
theorem i_vc_ringSize {k : Nat} {u : SX} {v : SY} (I : i_Rel k u v) (hk : k + 5 ≤ 2563) : wpX_ringSize (fun r => wpY_ringSize (fun r' => r' = r ∧ i_Rel (k + 5) u v) v) u := by
  refine zz_el (P := fun u v => wpX_ringSize (fun r => wpY_ringSize (fun r' => r' = r ∧ i_Rel (k + 5) u v) v) u) ?_ I
  intro k0 k1 k2 k3 k4 k5 k6 k7 k8 k9 k10 k11 k12 k13 k14 k15 k16 k17 k18 k19 fwc frg flm fst fgv fov ffl fmd fwd xlo xla xlb xll xce xlc xtop xbot xslo xaim xph xcu xhe xit xst xsb xpv xtr xpr xar xpa xfk xlk xnk xow xki xfo xre xbe xck xru xpc xjn xbl xrg xod xnu gwc grg glm gst ggv grp gra gmd gtr yvi yli yco ypr yar ypa yre ybe yck ynx you yfo yrg yce ytp ytl I
  obtain ⟨wc, rg, lim, ⟨e1, e2, e3, e4, e5, e6, e7, e8⟩, _⟩ := id I
  exact ⟨e4.trans e3.symm, I⟩
theorem i_vc_taskLimit {k : Nat} {u : SX} {v : SY} (I : i_Rel k u v) (hk : k + 5 ≤ 2563) : wpX_taskLimit (fun r => wpY_taskLimit (fun r' => r' = r ∧ i_Rel (k + 5) u v) v) u := by
  refine zz_el (P := fun u v => wpX_taskLimit (fun r => wpY_taskLimit (fun r' => r' = r ∧ i_Rel (k + 5) u v) v) u) ?_ I
  intro k0 k1 k2 k3 k4 k5 k6 k7 k8 k9 k10 k11 k12 k13 k14 k15 k16 k17 k18 k19 fwc frg flm fst fgv fov ffl fmd fwd xlo xla xlb xll xce xlc xtop xbot xslo xaim xph xcu xhe xit xst xsb xpv xtr xpr xar xpa xfk xlk xnk xow xki xfo xre xbe xck xru xpc xjn xbl xrg xod xnu gwc grg glm gst ggv grp gra gmd gtr yvi yli yco ypr yar ypa yre ybe yck ynx you yfo yrg yce ytp ytl I
  obtain ⟨wc, rg, lim, ⟨e1, e2, e3, e4, e5, e6, e7, e8⟩, _⟩ := id I
  exact ⟨e6.trans e5.symm, I⟩
theorem i_vc_taskCount {k : Nat} {u : SX} {v : SY} (I : i_Rel k u v) (hk : k + 5 ≤ 2563) : wpX_taskCount (fun r => wpY_taskCount (fun r' => r' = r ∧ i_Rel (k + 5) u v) v) u := by
  refine zz_el (P := fun u v => wpX_taskCount (fun r => wpY_taskCount (fun r' => r' = r ∧ i_Rel (k + 5) u v) v) u) ?_ I
  intro k0 k1 k2 k3 k4 k5 k6 k7 k8 k9 k10 k11 k12 k13 k14 k15 k16 k17 k18 k19 fwc frg flm fst fgv fov ffl fmd fwd xlo xla xlb xll xce xlc xtop xbot xslo xaim xph xcu xhe xit xst xsb xpv xtr xpr xar xpa xfk xlk xnk xow xki xfo xre xbe xck xru xpc xjn xbl xrg xod xnu gwc grg glm gst ggv grp gra gmd gtr yvi yli yco ypr yar ypa yre ybe yck ynx you yfo yrg yce ytp ytl I
  obtain ⟨wc, rg, lim, ⟨e1, e2, e3, e4, e5, e6, e7, e8⟩, c, a, y, t, h1, h2⟩ := id I
  by_cases q : fst = 2
  · obtain ⟨m, S, d1, d2, d3, d4, _⟩ := h2 q
    exact br_t q (br_t (e7.trans q) ⟨d4.trans d3.symm, I⟩)
  · exact br_f q (br_f (fun z => q (e7.symm.trans z)) ⟨rfl, I⟩)
theorem i_vc_work {k : Nat} {u : SX} {v : SY} (I : i_Rel k u v) (hk : k + 5 ≤ 2563) : wpX_work (fun r => wpY_work (fun r' => r' = r ∧ i_Rel (k + 5) u v) v) u := by
  refine zz_el (P := fun u v => wpX_work (fun r => wpY_work (fun r' => r' = r ∧ i_Rel (k + 5) u v) v) u) ?_ I
  intro k0 k1 k2 k3 k4 k5 k6 k7 k8 k9 k10 k11 k12 k13 k14 k15 k16 k17 k18 k19 fwc frg flm fst fgv fov ffl fmd fwd xlo xla xlb xll xce xlc xtop xbot xslo xaim xph xcu xhe xit xst xsb xpv xtr xpr xar xpa xfk xlk xnk xow xki xfo xre xbe xck xru xpc xjn xbl xrg xod xnu gwc grg glm gst ggv grp gra gmd gtr yvi yli yco ypr yar ypa yre ybe yck ynx you yfo yrg yce ytp ytl I
  obtain ⟨wc, rg, lim, ⟨e1, e2, e3, e4, e5, e6, e7, e8⟩, c, a, y, t, h1, h2⟩ := id I
  by_cases q : fst = 2
  · obtain ⟨m, S, d1, d2, d3, d4, d5, d6, d7, _⟩ := h2 q
    exact br_t q (br_t (e7.trans q) ⟨d7.trans d6.symm, I⟩)
  · exact br_f q (br_f (fun z => q (e7.symm.trans z)) ⟨rfl, I⟩)
theorem i_vc_span {k : Nat} {u : SX} {v : SY} (I : i_Rel k u v) (hk : k + 5 ≤ 2563) : wpX_span (fun r => wpY_span (fun r' => r' = r ∧ i_Rel (k + 5) u v) v) u := by
  refine zz_el (P := fun u v => wpX_span (fun r => wpY_span (fun r' => r' = r ∧ i_Rel (k + 5) u v) v) u) ?_ I
  intro k0 k1 k2 k3 k4 k5 k6 k7 k8 k9 k10 k11 k12 k13 k14 k15 k16 k17 k18 k19 fwc frg flm fst fgv fov ffl fmd fwd xlo xla xlb xll xce xlc xtop xbot xslo xaim xph xcu xhe xit xst xsb xpv xtr xpr xar xpa xfk xlk xnk xow xki xfo xre xbe xck xru xpc xjn xbl xrg xod xnu gwc grg glm gst ggv grp gra gmd gtr yvi yli yco ypr yar ypa yre ybe yck ynx you yfo yrg yce ytp ytl I
  obtain ⟨wc, rg, lim, ⟨e1, e2, e3, e4, e5, e6, e7, e8⟩, c, a, y, t, h1, h2⟩ := id I
  by_cases q : fst = 2
  · obtain ⟨m, S, d1, d2, d3, d4, d5, d6, d7, d8, d9, d10, d11, d12⟩ := h2 q
    exact br_t q (br_t (e7.trans q) ⟨d11.symm, I⟩)
  · exact br_f q (br_f (fun z => q (e7.symm.trans z)) ⟨rfl, I⟩)
theorem i_vc_tally {k : Nat} {u : SX} {v : SY} (I : i_Rel k u v) (hk : k + 5 ≤ 2563) (v1 : Int32) : wpX_tally (fun r => wpY_tally (fun r' => r' = r ∧ i_Rel (k + 5) u v) v v1) u v1 := by
  refine zz_el (P := fun u v => wpX_tally (fun r => wpY_tally (fun r' => r' = r ∧ i_Rel (k + 5) u v) v v1) u v1) ?_ I
  intro k0 k1 k2 k3 k4 k5 k6 k7 k8 k9 k10 k11 k12 k13 k14 k15 k16 k17 k18 k19 fwc frg flm fst fgv fov ffl fmd fwd xlo xla xlb xll xce xlc xtop xbot xslo xaim xph xcu xhe xit xst xsb xpv xtr xpr xar xpa xfk xlk xnk xow xki xfo xre xbe xck xru xpc xjn xbl xrg xod xnu gwc grg glm gst ggv grp gra gmd gtr yvi yli yco ypr yar ypa yre ybe yck ynx you yfo yrg yce ytp ytl I
  obtain ⟨wc, rg, lim, ⟨e1, e2, e3, e4, e5, e6, e7, e8⟩, c, a, y, t, h1, h2⟩ := id I
  by_cases q : fst = 2
  · obtain ⟨m, S, d1, d2, d3, d4, d5, d6, d7, d8, d9, d10, d11, d12⟩ := h2 q
    have q' := e7.trans q
    by_cases a0 : v1 < 0
    · exact br_t q (br_t a0 (br_t q' (br_t a0 ⟨rfl, I⟩)))
    · by_cases a4 : v1 < 4
      · obtain ⟨j, hj, rfl⟩ := nI_of a0
        have j4 : j < 4 := (nI_ltI (b := 4) hj (by decide)).mp a4
        have ij : vp_in (nI j) 4 := vp_in_nI j4 (by decide)
        refine br_t q (br_f a0 (br_t a4 ⟨ij, br_t q' (br_f a0 (br_t a4 ⟨ij, ?_, I⟩))⟩))
        rw [nI_clamp hj]; exact (d10 j j4).symm
      · exact br_t q (br_f a0 (br_f a4 (br_t q' (br_f a0 (br_f a4 ⟨rfl, I⟩)))))
  · exact br_f q (br_f (fun z => q (e7.symm.trans z)) ⟨rfl, I⟩)
theorem i_vc_drop {k : Nat} {u : SX} {v : SY} (I : i_Rel k u v) (hk : k + 5 ≤ 2563) : wpX_drop (fun r u' => wpY_drop (fun r' v' => r' = r ∧ i_Rel (k + 5) u' v') v) u := by
  refine zz_el (P := fun u v => wpX_drop (fun r u' => wpY_drop (fun r' v' => r' = r ∧ i_Rel (k + 5) u' v') v) u) ?_ I
  intro k0 k1 k2 k3 k4 k5 k6 k7 k8 k9 k10 k11 k12 k13 k14 k15 k16 k17 k18 k19 fwc frg flm fst fgv fov ffl fmd fwd xlo xla xlb xll xce xlc xtop xbot xslo xaim xph xcu xhe xit xst xsb xpv xtr xpr xar xpa xfk xlk xnk xow xki xfo xre xbe xck xru xpc xjn xbl xrg xod xnu gwc grg glm gst ggv grp gra gmd gtr yvi yli yco ypr yar ypa yre ybe yck ynx you yfo yrg yce ytp ytl I
  obtain ⟨wc, rg, lim, ⟨e1, e2, e3, e4, e5, e6, e7, e8⟩, c, a, y, t, h1, h2⟩ := id I
  by_cases q : fst = 1
  · exact br_t q (br_t (e7.trans q) ⟨rfl, wc, rg, lim, ⟨e1, e2, e3, e4, e5, e6, rfl, e8⟩, c, a, y, t, fun z => absurd z (by decide), fun z => absurd z (by decide)⟩)
  · exact br_f q (br_f (fun z => q (e7.symm.trans z)) ⟨rfl, I⟩)
theorem i_vc_victim {k : Nat} {u : SX} {v : SY} (I : i_Rel k u v) (hk : k + 5 ≤ 2563) (v1 : Int32) : wpX_victim (fun r => wpY_victim (fun r' => r' = r ∧ i_Rel (k + 5) u v) v v1) u v1 := by
  refine zz_el (P := fun u v => wpX_victim (fun r => wpY_victim (fun r' => r' = r ∧ i_Rel (k + 5) u v) v v1) u v1) ?_ I
  intro k0 k1 k2 k3 k4 k5 k6 k7 k8 k9 k10 k11 k12 k13 k14 k15 k16 k17 k18 k19 fwc frg flm fst fgv fov ffl fmd fwd xlo xla xlb xll xce xlc xtop xbot xslo xaim xph xcu xhe xit xst xsb xpv xtr xpr xar xpa xfk xlk xnk xow xki xfo xre xbe xck xru xpc xjn xbl xrg xod xnu gwc grg glm gst ggv grp gra gmd gtr yvi yli yco ypr yar ypa yre ybe yck ynx you yfo yrg yce ytp ytl I
  obtain ⟨wc, rg, lim, ⟨e1, e2, e3, e4, e5, e6, e7, e8⟩, c, a, y, t, h1, h2⟩ := id I
  have c2 := c.2.1
  by_cases a0 : v1 < 0
  · exact br_t a0 (br_t a0 ⟨rfl, I⟩)
  · by_cases a4 : v1 < nI wc
    · obtain ⟨j, hj, rfl⟩ := nI_of a0
      have jw : j < wc := (nI_ltI hj (by omega)).mp a4
      have ij : vp_in (nI j) 4 := vp_in_nI (by omega) (by decide)
      refine br_f a0 (br_t (by rw [e1]; exact a4) ⟨ij, br_f a0 (br_t (by rw [e2]; exact a4) ⟨ij, ?_, I⟩)⟩)
      rw [nI_clamp hj]; exact a j jw
    · exact br_f a0 (br_f (by rw [e1]; exact a4) (br_f a0 (br_f (by rw [e2]; exact a4) ⟨rfl, I⟩)))
theorem xr_ai {wc rg lim : Nat} {s gv : Int32} {ai ai' lO lA lB lL : Nat → Int32} {p : zl_P} {ov : Int32} {μ : Nat} {ph : Nat → Int32} {k0 k1 k2 k3 k4 k5 k6 k7 k8 k9 k10 k11 k12 k13 k14 k15 k16 k17 k18 k19 fwc frg flm fst fgv fov ffl fmd fwd : Int32} {xlo xla xlb xll xce xlc xtop xbot xslo xaim xph xcu xhe xit xst xsb xpv xtr xpr xar xpa xfk xlk xnk xow xki xfo xre xbe xck xru xpc xjn xbl xrg xod xnu : Nat → Int32} (h : xr_R wc rg lim s gv ai lO lA lB lL p ov μ ph (k0, k1, k2, k3, k4, k5, k6, k7, k8, k9, k10, k11, k12, k13, k14, k15, k16, k17, k18, k19, fwc, frg, flm, fst, fgv, fov, ffl, fmd, fwd, xlo, xla, xlb, xll, xce, xlc, xtop, xbot, xslo, xaim, xph, xcu, xhe, xit, xst, xsb, xpv, xtr, xpr, xar, xpa, xfk, xlk, xnk, xow, xki, xfo, xre, xbe, xck, xru, xpc, xjn, xbl, xrg, xod, xnu)) : xr_R wc rg lim s gv ai' lO lA lB lL p ov μ ph (k0, k1, k2, k3, k4, k5, k6, k7, k8, k9, k10, k11, k12, k13, k14, k15, k16, k17, k18, k19, fwc, frg, flm, fst, fgv, fov, ffl, fmd, fwd, xlo, xla, xlb, xll, xce, xlc, xtop, xbot, xslo, ai', xph, xcu, xhe, xit, xst, xsb, xpv, xtr, xpr, xar, xpa, xfk, xlk, xnk, xow, xki, xfo, xre, xbe, xck, xru, xpc, xjn, xbl, xrg, xod, xnu) := by
  obtain ⟨⟨a1, a2, a3, a4, a5, a6, a7⟩, h2⟩ := h
  exact ⟨⟨a1, a2, a3, a4, a5, rfl, a7⟩, h2⟩
theorem i_vc_aim {k : Nat} {u : SX} {v : SY} (I : i_Rel k u v) (hk : k + 5 ≤ 2563) (v1 : Int32) (v2 : Int32) : wpX_aim (fun r u' => wpY_aim (fun r' v' => r' = r ∧ i_Rel (k + 5) u' v') v v1 v2) u v1 v2 := by
  refine zz_el (P := fun u v => wpX_aim (fun r u' => wpY_aim (fun r' v' => r' = r ∧ i_Rel (k + 5) u' v') v v1 v2) u v1 v2) ?_ I
  intro k0 k1 k2 k3 k4 k5 k6 k7 k8 k9 k10 k11 k12 k13 k14 k15 k16 k17 k18 k19 fwc frg flm fst fgv fov ffl fmd fwd xlo xla xlb xll xce xlc xtop xbot xslo xaim xph xcu xhe xit xst xsb xpv xtr xpr xar xpa xfk xlk xnk xow xki xfo xre xbe xck xru xpc xjn xbl xrg xod xnu gwc grg glm gst ggv grp gra gmd gtr yvi yli yco ypr yar ypa yre ybe yck ynx you yfo yrg yce ytp ytl I
  obtain ⟨wc, rg, lim, ⟨e1, e2, e3, e4, e5, e6, e7, e8⟩, c, a, y, t, h1, h2⟩ := id I
  have c2 := c.2.1
  by_cases a0 : v1 < 0
  · exact br_t a0 (br_t a0 ⟨rfl, I⟩)
  by_cases a4 : v1 < nI wc
  · have a4x : v1 < fwc := by rw [e1]; exact a4
    have a4y : v1 < gwc := by rw [e2]; exact a4
    by_cases b0 : v2 < 0
    · exact br_f a0 (br_t a4x (br_t b0 (br_f a0 (br_t a4y (br_t b0 ⟨rfl, I⟩)))))
    by_cases b4 : v2 < nI wc
    · have b4x : v2 < fwc := by rw [e1]; exact b4
      have b4y : v2 < gwc := by rw [e2]; exact b4
      by_cases ne : v2 = v1
      · exact br_f a0 (br_t a4x (br_f b0 (br_t b4x (br_t ne (br_f a0 (br_t a4y (br_f b0 (br_t b4y (br_t ne ⟨rfl, I⟩)))))))))
      · obtain ⟨j, hj, rfl⟩ := nI_of a0
        obtain ⟨i, hi, rfl⟩ := nI_of b0
        have jw : j < wc := (nI_ltI hj (by omega)).mp a4
        have iw : i < wc := (nI_ltI hi (by omega)).mp b4
        have ij : vp_in (nI j) 4 := vp_in_nI (by omega) (by decide)
        refine br_f a0 (br_t a4x (br_f b0 (br_t b4x (br_f ne ⟨ij, nm_e (br_f a0 (br_t a4y (br_f b0 (br_t b4y (br_f ne ⟨ij, nm_e ⟨rfl, ?_⟩⟩)))))⟩))))
        rw [nI_clamp hj]
        obtain ⟨c1, c2, c3, c4, c5, c6, c7, c8⟩ := c
        refine ⟨wc, rg, lim, ⟨e1, e2, e3, e4, e5, e6, e7, e8⟩, ⟨c1, c2, c3, c4, c5, fun w hw => ?_, c7, c8⟩, fun w hw => ?_, y, t, fun z => ?_, h2⟩
        · by_cases q : w = j
          · subst q; rw [us_s, dN_n (by omega)]; exact iw
          · rw [us_n q]; exact c6 w hw
        · by_cases q : w = j
          · subst q; rw [us_s, us_s]
          · rw [us_n q, us_n q]; exact a w hw
        · obtain ⟨pr, ov, μ, x1, x2, x3⟩ := h1 z
          exact ⟨pr, ov, μ, x1, x2, xr_ai x3⟩
    · exact br_f a0 (br_t a4x (br_f b0 (br_f (by rw [e1]; exact b4) (br_f a0 (br_t a4y (br_f b0 (br_f (by rw [e2]; exact b4) ⟨rfl, I⟩)))))))
  · exact br_f a0 (br_f (by rw [e1]; exact a4) (br_f a0 (br_f (by rw [e2]; exact a4) ⟨rfl, I⟩)))
end
end
section
/-! the program's calls -/
section
theorem ll_of {wc rg lim : Nat} {ai lO lA lB lL yli yco : Nat → Int32} (c : xr_C wc rg lim ai lO lA lB lL) (y : yr_G (lO, lA, lB, fun p => (lL p).toNatClampNeg) yli yco) {j : Nat} (hj : j < 4) : ∃ n, n ≤ 10 ∧ lL j = nI n ∧ yco j = nI n := by
  obtain ⟨n, n1, n2⟩ := c.2.2.2.2.2.2.2 j hj
  refine ⟨n, n1, n2, ?_⟩
  rw [y.2 j hj]
  show nI (lL j).toNatClampNeg = nI n
  rw [n2, nI_clamp (by omega)]
theorem i_vc_lineCount {k : Nat} {u : SX} {v : SY} (I : i_Rel k u v) (hk : k + 5 ≤ 2563) (v1 : Int32) : wpX_lineCount (fun r => wpY_lineCount (fun r' => r' = r ∧ i_Rel (k + 5) u v) v v1) u v1 := by
  refine zz_el (P := fun u v => wpX_lineCount (fun r => wpY_lineCount (fun r' => r' = r ∧ i_Rel (k + 5) u v) v v1) u v1) ?_ I
  intro k0 k1 k2 k3 k4 k5 k6 k7 k8 k9 k10 k11 k12 k13 k14 k15 k16 k17 k18 k19 fwc frg flm fst fgv fov ffl fmd fwd xlo xla xlb xll xce xlc xtop xbot xslo xaim xph xcu xhe xit xst xsb xpv xtr xpr xar xpa xfk xlk xnk xow xki xfo xre xbe xck xru xpc xjn xbl xrg xod xnu gwc grg glm gst ggv grp gra gmd gtr yvi yli yco ypr yar ypa yre ybe yck ynx you yfo yrg yce ytp ytl I
  obtain ⟨wc, rg, lim, ⟨e1, e2, e3, e4, e5, e6, e7, e8⟩, c, a, y, t, h1, h2⟩ := id I
  by_cases a0 : v1 < 0
  · exact br_t a0 (br_t a0 ⟨rfl, I⟩)
  by_cases a4 : v1 < 4
  · obtain ⟨j, hj, rfl⟩ := nI_of a0
    have j4 : j < 4 := (nI_ltI (b := 4) hj (by decide)).mp a4
    have ij : vp_in (nI j) 4 := vp_in_nI j4 (by decide)
    obtain ⟨n, n1, n2, n3⟩ := ll_of c y j4
    refine br_f a0 (br_t a4 ⟨ij, br_f a0 (br_t a4 ⟨ij, ?_, I⟩)⟩)
    rw [nI_clamp hj, n2, n3]
  · exact br_f a0 (br_f a4 (br_f a0 (br_f a4 ⟨rfl, I⟩)))
theorem i_vc_lineField {k : Nat} {u : SX} {v : SY} (I : i_Rel k u v) (hk : k + 5 ≤ 2563) (v1 : Int32) (v2 : Int32) (v3 : Int32) : wpX_lineField (fun r => wpY_lineField (fun r' => r' = r ∧ i_Rel (k + 5) u v) v v1 v2 v3) u v1 v2 v3 := by
  refine zz_el (P := fun u v => wpX_lineField (fun r => wpY_lineField (fun r' => r' = r ∧ i_Rel (k + 5) u v) v v1 v2 v3) u v1 v2 v3) ?_ I
  intro k0 k1 k2 k3 k4 k5 k6 k7 k8 k9 k10 k11 k12 k13 k14 k15 k16 k17 k18 k19 fwc frg flm fst fgv fov ffl fmd fwd xlo xla xlb xll xce xlc xtop xbot xslo xaim xph xcu xhe xit xst xsb xpv xtr xpr xar xpa xfk xlk xnk xow xki xfo xre xbe xck xru xpc xjn xbl xrg xod xnu gwc grg glm gst ggv grp gra gmd gtr yvi yli yco ypr yar ypa yre ybe yck ynx you yfo yrg yce ytp ytl I
  obtain ⟨wc, rg, lim, ⟨e1, e2, e3, e4, e5, e6, e7, e8⟩, c, a, y, t, h1, h2⟩ := id I
  by_cases a0 : v1 < 0
  · exact br_t a0 (br_t a0 ⟨rfl, I⟩)
  by_cases a4 : v1 < 4
  · obtain ⟨j, hj, rfl⟩ := nI_of a0
    have j4 : j < 4 := (nI_ltI (b := 4) hj (by decide)).mp a4
    have ij : vp_in (nI j) 4 := vp_in_nI j4 (by decide)
    have cj : (nI j).toNatClampNeg = j := nI_clamp hj
    obtain ⟨n, n1, n2, n3⟩ := ll_of c y j4
    by_cases b0 : v2 < 0
    · exact br_f a0 (br_t a4 (br_t b0 (br_f a0 (br_t a4 (br_t b0 ⟨rfl, I⟩)))))
    by_cases b4 : v2 < nI n
    · have bx : v2 < xll (nI j).toNatClampNeg := by rw [cj, n2]; exact b4
      have by' : v2 < yco (nI j).toNatClampNeg := by rw [cj, n3]; exact b4
      obtain ⟨i, hi, rfl⟩ := nI_of b0
      have i4 : i < n := (nI_ltI hi (by omega)).mp b4
      have e : nI j * 10 + nI i = nI (j * 10 + i) := by
        show nI j * nI 10 + nI i = _
        rw [pk_mul, nI_add]
      have ie : vp_in (nI (j * 10 + i)) 40 := vp_in_nI (by omega) (by decide)
      have ce : (nI (j * 10 + i)).toNatClampNeg = j * 10 + i := nI_clamp (by omega)
      obtain ⟨y0, y1, y2⟩ := y.1 (j * 10 + i) (by omega)
      have Yw : ∀ (f : Nat) (r : Int32), f < 3 → yli (3 * (j * 10 + i) + f) = r → wpY_lineField (fun r' => r' = r ∧ i_Rel (k + 5) (k0, k1, k2, k3, k4, k5, k6, k7, k8, k9, k10, k11, k12, k13, k14, k15, k16, k17, k18, k19, fwc, frg, flm, fst, fgv, fov, ffl, fmd, fwd, xlo, xla, xlb, xll, xce, xlc, xtop, xbot, xslo, xaim, xph, xcu, xhe, xit, xst, xsb, xpv, xtr, xpr, xar, xpa, xfk, xlk, xnk, xow, xki, xfo, xre, xbe, xck, xru, xpc, xjn, xbl, xrg, xod, xnu) (gwc, grg, glm, gst, ggv, grp, gra, gmd, gtr, yvi, yli, yco, ypr, yar, ypa, yre, ybe, yck, ynx, you, yfo, yrg, yce, ytp, ytl)) (gwc, grg, glm, gst, ggv, grp, gra, gmd, gtr, yvi, yli, yco, ypr, yar, ypa, yre, ybe, yck, ynx, you, yfo, yrg, yce, ytp, ytl) (nI j) (nI i) (nI f) := by
        intro f r hf er
        refine yr_lf (g := (xlo, xla, xlb, fun p => (xll p).toNatClampNeg)) c.2.2.2.2.2.2.1 y j4 ?_ hf ⟨er, I⟩
        show i < (xll j).toNatClampNeg
        rw [n2, nI_clamp (by omega)]; exact i4
      refine br_f a0 (br_t a4 (br_f b0 ⟨ij, br_t bx (nm_r e ?_)⟩))
      by_cases f0 : v3 = 0
      · subst f0
        refine br_t rfl ⟨ie, ?_⟩
        rw [ce]; exact Yw 0 _ (by decide) y0
      by_cases f1 : v3 = 1
      · subst f1
        refine br_f (by decide) (br_t rfl ⟨ie, ?_⟩)
        rw [ce]; exact Yw 1 _ (by decide) y1
      by_cases f2 : v3 = 2
      · subst f2
        refine br_f (by decide) (br_f (by decide) (br_t rfl ⟨ie, ?_⟩))
        rw [ce]; exact Yw 2 _ (by decide) y2
      · refine br_f f0 (br_f f1 (br_f f2 (br_f a0 (br_t a4 (br_f b0 ⟨ij, br_t by' (br_c (fun _ => ⟨rfl, I⟩) (fun g0 => br_f ?_ ⟨rfl, I⟩))⟩)))))
        intro g2
        obtain ⟨l, hl, rfl⟩ := nI_of g0
        have l2 : l ≤ 2 := (nI_leI (b := 2) hl (by decide)).mp g2
        have lc : l = 0 ∨ l = 1 ∨ l = 2 := by omega
        rcases lc with rfl | rfl | rfl
        · exact f0 rfl
        · exact f1 rfl
        · exact f2 rfl
    · have bx : ¬ v2 < xll (nI j).toNatClampNeg := by rw [cj, n2]; exact b4
      have by' : ¬ v2 < yco (nI j).toNatClampNeg := by rw [cj, n3]; exact b4
      exact br_f a0 (br_t a4 (br_f b0 ⟨ij, br_f bx (br_f a0 (br_t a4 (br_f b0 ⟨ij, br_f by' ⟨rfl, I⟩⟩)))⟩))
  · exact br_f a0 (br_f a4 (br_f a0 (br_f a4 ⟨rfl, I⟩)))
theorem i_vc_clearProc {k : Nat} {u : SX} {v : SY} (I : i_Rel k u v) (hk : k + 5 ≤ 2563) (v1 : Int32) : wpX_clearProc (fun r u' => wpY_clearProc (fun r' v' => r' = r ∧ i_Rel (k + 5) u' v') v v1) u v1 := by
  refine zz_el (P := fun u v => wpX_clearProc (fun r u' => wpY_clearProc (fun r' v' => r' = r ∧ i_Rel (k + 5) u' v') v v1) u v1) ?_ I
  intro k0 k1 k2 k3 k4 k5 k6 k7 k8 k9 k10 k11 k12 k13 k14 k15 k16 k17 k18 k19 fwc frg flm fst fgv fov ffl fmd fwd xlo xla xlb xll xce xlc xtop xbot xslo xaim xph xcu xhe xit xst xsb xpv xtr xpr xar xpa xfk xlk xnk xow xki xfo xre xbe xck xru xpc xjn xbl xrg xod xnu gwc grg glm gst ggv grp gra gmd gtr yvi yli yco ypr yar ypa yre ybe yck ynx you yfo yrg yce ytp ytl I
  obtain ⟨wc, rg, lim, ⟨e1, e2, e3, e4, e5, e6, e7, e8⟩, c, a, y, t, h1, h2⟩ := id I
  by_cases s1 : fst = 1
  · exact br_t s1 (br_t (e7.trans s1) ⟨rfl, I⟩)
  have s1' : ¬ gst = 1 := fun z => s1 (e7.symm.trans z)
  by_cases a0 : v1 < 0
  · exact br_f s1 (br_t a0 (br_f s1' (br_t a0 ⟨rfl, I⟩)))
  by_cases a4 : v1 < 4
  · obtain ⟨j, hj, rfl⟩ := nI_of a0
    have j4 : j < 4 := (nI_ltI (b := 4) hj (by decide)).mp a4
    have ij : vp_in (nI j) 4 := vp_in_nI j4 (by decide)
    refine br_f s1 (br_f a0 (br_t a4 ⟨ij, nm_e (br_f s1' (br_f a0 (br_t a4 ⟨ij, nm_e ⟨rfl, ?_⟩⟩)))⟩))
    rw [nI_clamp hj]
    obtain ⟨c1, c2, c3, c4, c5, c6, c7, c8⟩ := c
    obtain ⟨y1, y2⟩ := y
    have ln : ∀ p, (upd xll j 0 p).toNatClampNeg = if p = j then 0 else (xll p).toNatClampNeg := by
      intro p
      by_cases q : p = j
      · subst q; rw [us_s, if_pos rfl]; decide
      · rw [us_n q, if_neg q]
    refine ⟨wc, rg, lim, ⟨e1, e2, e3, e4, e5, e6, e7, e8⟩, ⟨c1, c2, c3, c4, c5, c6, ?_, ?_⟩, a, ⟨y1, ?_⟩, t, fun z => absurd z s1, h2⟩
    · intro p hp
      obtain ⟨b1, b2⟩ := c7 p hp
      show (upd xll j 0 p).toNatClampNeg ≤ 10 ∧ ∀ i, i < (upd xll j 0 p).toNatClampNeg → _
      rw [ln]
      by_cases q : p = j
      · rw [if_pos q]; exact ⟨by omega, fun i hi => by omega⟩
      · rw [if_neg q]; exact ⟨b1, b2⟩
    · intro p hp
      by_cases q : p = j
      · subst q; rw [us_s]; exact ⟨0, by omega, rfl⟩
      · rw [us_n q]; exact c8 p hp
    · intro p hp
      show upd yco j 0 p = nI (upd xll j 0 p).toNatClampNeg
      rw [ln]
      by_cases q : p = j
      · subst q; rw [us_s, if_pos rfl]; rfl
      · rw [us_n q, if_neg q]; exact y2 p hp
  · exact br_f s1 (br_f a0 (br_f a4 (br_f s1' (br_f a0 (br_f a4 ⟨rfl, I⟩)))))
/-- whether b of this op names a register -/
def nr_P (p : Int32) : Prop := p = 1 ∨ p = 2 ∨ p = 3 ∨ p = 4 ∨ p = 8 ∨ p = 10
theorem nr_X {post : Int32 → Prop} {q : Int32} {k0 k1 k2 k3 k4 k5 k6 k7 k8 k9 k10 k11 k12 k13 k14 k15 k16 k17 k18 k19 fwc frg flm fst fgv fov ffl fmd fwd : Int32} {xlo xla xlb xll xce xlc xtop xbot xslo xaim xph xcu xhe xit xst xsb xpv xtr xpr xar xpa xfk xlk xnk xow xki xfo xre xbe xck xru xpc xjn xbl xrg xod xnu : Nat → Int32} (h1 : nr_P q → post 1) (h0 : ¬ nr_P q → post 0) : wpX_needsRegister post (k0, k1, k2, k3, k4, k5, k6, k7, k8, k9, k10, k11, k12, k13, k14, k15, k16, k17, k18, k19, fwc, frg, flm, fst, fgv, fov, ffl, fmd, fwd, xlo, xla, xlb, xll, xce, xlc, xtop, xbot, xslo, xaim, xph, xcu, xhe, xit, xst, xsb, xpv, xtr, xpr, xar, xpa, xfk, xlk, xnk, xow, xki, xfo, xre, xbe, xck, xru, xpc, xjn, xbl, xrg, xod, xnu) q :=
  br_c (fun z => h1 (Or.inl z)) (fun a1 => br_c (fun z => h1 (Or.inr (Or.inl z))) (fun a2 => br_c (fun z => h1 (Or.inr (Or.inr (Or.inl z)))) (fun a3 => br_c (fun z => h1 (Or.inr (Or.inr (Or.inr (Or.inl z))))) (fun a4 => br_c (fun z => h1 (Or.inr (Or.inr (Or.inr (Or.inr (Or.inl z)))))) (fun a5 => br_c (fun z => h1 (Or.inr (Or.inr (Or.inr (Or.inr (Or.inr z)))))) (fun a6 => h0 (by
    rintro (z | z | z | z | z | z)
    · exact a1 z
    · exact a2 z
    · exact a3 z
    · exact a4 z
    · exact a5 z
    · exact a6 z)))))))
theorem nr_Y {q : Int32} {A B : Prop} (h1 : nr_P q → A) (h0 : ¬ nr_P q → B) : (q = 1 → A) ∧ (¬ q = 1 → ((q = 2 → A) ∧ (¬ q = 2 → ((q = 3 → A) ∧ (¬ q = 3 → ((q = 4 → A) ∧ (¬ q = 4 → ((q = 8 → A) ∧ (¬ q = 8 → ((q = 10 → A) ∧ (¬ q = 10 → (B)))))))))))) :=
  br_c (fun z => h1 (Or.inl z)) (fun a1 => br_c (fun z => h1 (Or.inr (Or.inl z))) (fun a2 => br_c (fun z => h1 (Or.inr (Or.inr (Or.inl z)))) (fun a3 => br_c (fun z => h1 (Or.inr (Or.inr (Or.inr (Or.inl z))))) (fun a4 => br_c (fun z => h1 (Or.inr (Or.inr (Or.inr (Or.inr (Or.inl z)))))) (fun a5 => br_c (fun z => h1 (Or.inr (Or.inr (Or.inr (Or.inr (Or.inr z)))))) (fun a6 => h0 (by
    rintro (z | z | z | z | z | z)
    · exact a1 z
    · exact a2 z
    · exact a3 z
    · exact a4 z
    · exact a5 z
    · exact a6 z)))))))
theorem i_vc_addLine {k : Nat} {u : SX} {v : SY} (I : i_Rel k u v) (hk : k + 5 ≤ 2563) (v1 : Int32) (v2 : Int32) (v3 : Int32) (v4 : Int32) : wpX_addLine (fun r u' => wpY_addLine (fun r' v' => r' = r ∧ i_Rel (k + 5) u' v') v v1 v2 v3 v4) u v1 v2 v3 v4 := by
  refine zz_el (P := fun u v => wpX_addLine (fun r u' => wpY_addLine (fun r' v' => r' = r ∧ i_Rel (k + 5) u' v') v v1 v2 v3 v4) u v1 v2 v3 v4) ?_ I
  intro k0 k1 k2 k3 k4 k5 k6 k7 k8 k9 k10 k11 k12 k13 k14 k15 k16 k17 k18 k19 fwc frg flm fst fgv fov ffl fmd fwd xlo xla xlb xll xce xlc xtop xbot xslo xaim xph xcu xhe xit xst xsb xpv xtr xpr xar xpa xfk xlk xnk xow xki xfo xre xbe xck xru xpc xjn xbl xrg xod xnu gwc grg glm gst ggv grp gra gmd gtr yvi yli yco ypr yar ypa yre ybe yck ynx you yfo yrg yce ytp ytl I
  obtain ⟨wc, rg, lim, ⟨e1, e2, e3', e4, e5, e6, e7, e8⟩, c, a, y, t, h1, h2⟩ := id I
  by_cases s1 : fst = 1
  · exact br_t s1 (br_t (e7.trans s1) ⟨rfl, I⟩)
  have s1' : ¬ gst = 1 := fun z => s1 (e7.symm.trans z)
  by_cases a0 : v1 < 0
  · exact br_f s1 (br_t a0 (br_f s1' (br_t a0 ⟨rfl, I⟩)))
  by_cases a4 : v1 < 4
  · by_cases b0 : v2 < 0
    · exact br_f s1 (br_f a0 (br_t a4 (br_t b0 (br_f s1' (br_f a0 (br_t a4 (br_t b0 ⟨rfl, I⟩)))))))
    by_cases b4 : v2 ≤ 11
    · by_cases d0 : v3 < 0
      · exact br_f s1 (br_f a0 (br_t a4 (br_f b0 (br_t b4 (br_t d0 (br_f s1' (br_f a0 (br_t a4 (br_f b0 (br_t b4 (br_t d0 ⟨rfl, I⟩)))))))))))
      by_cases d4 : v3 < 4
      · obtain ⟨j, hj, rfl⟩ := nI_of a0
        have j4 : j < 4 := (nI_ltI (b := 4) hj (by decide)).mp a4
        obtain ⟨op, hop, rfl⟩ := nI_of b0
        have op11 : op ≤ 11 := (nI_leI (b := 11) hop (by decide)).mp b4
        obtain ⟨la, hla, rfl⟩ := nI_of d0
        have la4 : la < 4 := (nI_ltI (b := 4) hla (by decide)).mp d4
        have d3 : nI la ≤ 3 := nI_le (b := 3) (by omega) (by decide)
        have ij : vp_in (nI j) 4 := vp_in_nI j4 (by decide)
        have cj : (nI j).toNatClampNeg = j := nI_clamp hj
        obtain ⟨n, n1, n2, n3⟩ := ll_of c y j4
        -- both sides at the line itself
        have core : (nr_P (nI op) → ∃ b, b < 4 ∧ v4 = nI b) → wX_addLine_70 (fun r u' => wpY_addLine (fun r' v' => r' = r ∧ i_Rel (k + 5) u' v') (gwc, grg, glm, gst, ggv, grp, gra, gmd, gtr, yvi, yli, yco, ypr, yar, ypa, yre, ybe, yck, ynx, you, yfo, yrg, yce, ytp, ytl) (nI j) (nI op) (nI la) v4) (nI j) (nI op) (nI la) v4 k0 k1 k2 k3 k4 k5 k6 k7 k8 k9 k10 k11 k12 k13 k14 k15 k16 k17 k18 k19 fwc frg flm fst fgv fov ffl fmd fwd xlo xla xlb xll xce xlc xtop xbot xslo xaim xph xcu xhe xit xst xsb xpv xtr xpr xar xpa xfk xlk xnk xow xki xfo xre xbe xck xru xpc xjn xbl xrg xod xnu := by
          intro hb
          have Yp : ∀ (post : Int32 → SY → Prop), wY_addLine_102 post (nI j) (nI op) (nI la) v4 gwc grg glm gst ggv grp gra gmd gtr yvi yli yco ypr yar ypa yre ybe yck ynx you yfo yrg yce ytp ytl → wpY_addLine post (gwc, grg, glm, gst, ggv, grp, gra, gmd, gtr, yvi, yli, yco, ypr, yar, ypa, yre, ybe, yck, ynx, you, yfo, yrg, yce, ytp, ytl) (nI j) (nI op) (nI la) v4 := by
            intro post h
            refine br_f s1' (br_f a0 (br_t a4 (br_f b0 (br_t b4 (br_f d0 (br_t d3 (nr_Y (fun z => ?_) (fun z => ?_))))))))
            · obtain ⟨b, b1, b2⟩ := hb z
              rw [b2] at h ⊢
              exact br_f (by decide) (br_f (nI_pos (by omega)) (br_t (nI_le (b := 3) (by omega) (by decide)) h))
            · exact br_t rfl h
          unfold wX_addLine_70
          rw [cj, n2]
          by_cases full : n < 10
          · have e : nI j * 10 + nI n = nI (j * 10 + n) := by
              show nI j * nI 10 + nI n = _
              rw [pk_mul, nI_add]
            have ie : vp_in (nI (j * 10 + n)) 40 := vp_in_nI (by omega) (by decide)
            have ce : (nI (j * 10 + n)).toNatClampNeg = j * 10 + n := nI_clamp (by omega)
            refine ⟨ij, nm_e (br_t (nI_lt (b := 10) full (by decide)) (nm_r e ⟨ie, nm_e ⟨ie, nm_e ⟨ie, nm_e ⟨ij, nm_e (Yp _ ?_)⟩⟩⟩⟩))⟩
            rw [ce]
            unfold wY_addLine_102
            rw [cj, n3, e]
            have e3 : nI (j * 10 + n) * 3 = nI (3 * (j * 10 + n)) := by
              show nI (j * 10 + n) * nI 3 = _
              rw [pk_mul, Nat.mul_comm]
            have i3 : ∀ f, f < 3 → vp_in (nI (3 * (j * 10 + n) + f)) 120 := fun f hf => vp_in_nI (by omega) (by decide)
            have c30 : (nI (3 * (j * 10 + n))).toNatClampNeg = 3 * (j * 10 + n) := nI_clamp (by omega)
            have x1 : nI (3 * (j * 10 + n)) + 1 = nI (3 * (j * 10 + n) + 1) := nI_1 _
            have x2 : nI (3 * (j * 10 + n)) + 2 = nI (3 * (j * 10 + n) + 2) := nI_add _ 2
            have c31 : (nI (3 * (j * 10 + n) + 1)).toNatClampNeg = 3 * (j * 10 + n) + 1 := nI_clamp (by omega)
            have c32 : (nI (3 * (j * 10 + n) + 2)).toNatClampNeg = 3 * (j * 10 + n) + 2 := nI_clamp (by omega)
            refine ⟨ij, br_t (nI_lt (b := 10) full (by decide)) ⟨ij, nm_r e3 ?_⟩⟩
            rw [x1, x2, c30, c31, c32]
            refine ⟨i3 0 (by decide), nm_e ⟨i3 1 (by decide), nm_e ⟨i3 2 (by decide), nm_e ⟨ij, ⟨ij, nm_e ⟨rfl, ?_⟩⟩⟩⟩⟩⟩
            obtain ⟨c1, c2, c3, c4, c5, c6, c7, c8⟩ := c
            obtain ⟨y1, y2⟩ := y
            have ln : ∀ p, (upd xll j (nI n + 1) p).toNatClampNeg = if p = j then n + 1 else (xll p).toNatClampNeg := by
              intro p
              by_cases q : p = j
              · subst q; rw [us_s, if_pos rfl, nI_1, nI_clamp (by omega)]
              · rw [us_n q, if_neg q]
            have lj : (xll j).toNatClampNeg = n := by rw [n2, nI_clamp (by omega)]
            refine ⟨wc, rg, lim, ⟨e1, e2, e3', e4, e5, e6, e7, e8⟩, ⟨c1, c2, c3, c4, c5, c6, ?_, ?_⟩, a, ⟨?_, ?_⟩, t, fun z => absurd z s1, h2⟩
            · intro p hp
              obtain ⟨b1, b2⟩ := c7 p hp
              show (upd xll j (nI n + 1) p).toNatClampNeg ≤ 10 ∧ ∀ i, i < (upd xll j (nI n + 1) p).toNatClampNeg → (∃ jj, jj ≤ 11 ∧ upd xlo (j * 10 + n) (nI op) (p * 10 + i) = nI jj) ∧ (∃ aa, aa < 4 ∧ upd xla (j * 10 + n) (nI la) (p * 10 + i) = nI aa) ∧ ((upd xlo (j * 10 + n) (nI op) (p * 10 + i) = 1 ∨ upd xlo (j * 10 + n) (nI op) (p * 10 + i) = 2 ∨ upd xlo (j * 10 + n) (nI op) (p * 10 + i) = 3 ∨ upd xlo (j * 10 + n) (nI op) (p * 10 + i) = 4 ∨ upd xlo (j * 10 + n) (nI op) (p * 10 + i) = 8 ∨ upd xlo (j * 10 + n) (nI op) (p * 10 + i) = 10) → ∃ bb, bb < 4 ∧ upd xlb (j * 10 + n) v4 (p * 10 + i) = nI bb)
              have b1' : (xll p).toNatClampNeg ≤ 10 := b1
              rw [ln]
              refine ⟨by split <;> omega, fun i hi => ?_⟩
              by_cases q : p * 10 + i = j * 10 + n
              · rw [q, us_s, us_s, us_s]
                exact ⟨⟨op, op11, rfl⟩, ⟨la, la4, rfl⟩, fun z => hb z⟩
              · rw [us_n q, us_n q, us_n q]
                refine b2 i ?_
                show i < (xll p).toNatClampNeg
                by_cases z : p = j
                · rw [if_pos z] at hi; subst z; omega
                · rw [if_neg z] at hi; exact hi
            · intro p hp
              by_cases q : p = j
              · subst q; rw [us_s, nI_1]; exact ⟨n + 1, by omega, rfl⟩
              · rw [us_n q]; exact c8 p hp
            · intro i hi
              show upd (upd (upd yli (3 * (j * 10 + n)) (nI op)) (3 * (j * 10 + n) + 1) (nI la)) (3 * (j * 10 + n) + 2) v4 (3 * i) = upd xlo (j * 10 + n) (nI op) i ∧ upd (upd (upd yli (3 * (j * 10 + n)) (nI op)) (3 * (j * 10 + n) + 1) (nI la)) (3 * (j * 10 + n) + 2) v4 (3 * i + 1) = upd xla (j * 10 + n) (nI la) i ∧ upd (upd (upd yli (3 * (j * 10 + n)) (nI op)) (3 * (j * 10 + n) + 1) (nI la)) (3 * (j * 10 + n) + 2) v4 (3 * i + 2) = upd xlb (j * 10 + n) v4 i
              by_cases q : i = j * 10 + n
              · subst q
                refine ⟨?_, ?_, ?_⟩
                · rw [us_n (by omega), us_n (by omega), us_s, us_s]
                · rw [us_n (by omega), us_s, us_s]
                · rw [us_s, us_s]
              · obtain ⟨z0, z1, z2⟩ := y1 i hi
                refine ⟨?_, ?_, ?_⟩
                · rw [us_n (by omega), us_n (by omega), us_n (by omega), us_n q]; exact z0
                · rw [us_n (by omega), us_n (by omega), us_n (by omega), us_n q]; exact z1
                · rw [us_n (by omega), us_n (by omega), us_n (by omega), us_n q]; exact z2
            · intro p hp
              show upd yco j (nI n + 1) p = nI (upd xll j (nI n + 1) p).toNatClampNeg
              rw [ln]
              by_cases q : p = j
              · subst q; rw [us_s, if_pos rfl, nI_1]
              · rw [us_n q, if_neg q]; exact y2 p hp
          · refine ⟨ij, nm_e (br_f (nI_nlt (a := n) (b := 10) (by omega) (by omega)) (Yp _ ?_))⟩
            unfold wY_addLine_102
            rw [cj, n3]
            exact ⟨ij, br_f (nI_nlt (a := n) (b := 10) (by omega) (by omega)) ⟨rfl, I⟩⟩
        refine br_f s1 (br_f a0 (br_t a4 (br_f b0 (br_t b4 (br_f d0 (br_t d4 (nr_X (fun hn => br_f (by decide) ?_) (fun hn => br_t rfl (core (fun z => absurd z hn))))))))))
        by_cases f0 : v4 < 0
        · refine br_t f0 (br_f s1' (br_f a0 (br_t a4 (br_f b0 (br_t b4 (br_f d0 (br_t d3 (nr_Y (fun _ => br_f (by decide) (br_t f0 ⟨rfl, I⟩)) (fun z => absurd hn z)))))))))
        by_cases f4 : v4 < 4
        · obtain ⟨b, hb, rfl⟩ := nI_of f0
          have b4' : b < 4 := (nI_ltI (b := 4) hb (by decide)).mp f4
          exact br_f f0 (br_t f4 (core (fun _ => ⟨b, b4', rfl⟩)))
        · have f3 : ¬ v4 ≤ 3 := by
            obtain ⟨b, hb, rfl⟩ := nI_of f0
            have b4' : ¬ b < 4 := fun z => f4 (nI_lt (b := 4) z (by decide))
            exact nI_ge (a := 3) (b := b) (by omega) hb
          exact br_f f0 (br_f f4 (br_f s1' (br_f a0 (br_t a4 (br_f b0 (br_t b4 (br_f d0 (br_t d3 (nr_Y (fun _ => br_f (by decide) (br_f f0 (br_f f3 ⟨rfl, I⟩))) (fun z => absurd hn z))))))))))
      · have d3 : ¬ v3 ≤ 3 := by
          obtain ⟨b, hb, rfl⟩ := nI_of d0
          have b4' : ¬ b < 4 := fun z => d4 (nI_lt (b := 4) z (by decide))
          exact nI_ge (a := 3) (b := b) (by omega) hb
        exact br_f s1 (br_f a0 (br_t a4 (br_f b0 (br_t b4 (br_f d0 (br_f d4 (br_f s1' (br_f a0 (br_t a4 (br_f b0 (br_t b4 (br_f d0 (br_f d3 ⟨rfl, I⟩)))))))))))))
    · exact br_f s1 (br_f a0 (br_t a4 (br_f b0 (br_f b4 (br_f s1' (br_f a0 (br_t a4 (br_f b0 (br_f b4 ⟨rfl, I⟩)))))))))
  · exact br_f s1 (br_f a0 (br_f a4 (br_f s1' (br_f a0 (br_f a4 ⟨rfl, I⟩)))))
end
end
section
/-! the outcomes -/
section
def mn_S (S i : Nat) : Nat := if i < S then i else S
theorem mn_1 {S i : Nat} (h : i < S) : mn_S S i = i ∧ mn_S S (i + 1) = i + 1 := by unfold mn_S; constructor <;> split <;> omega
theorem mn_2 {S i : Nat} (h : S ≤ i) : mn_S S i = S ∧ mn_S S (i + 1) = S := by unfold mn_S; constructor <;> split <;> omega
variable {gwc grg glm gst ggv grp gra gmd gtr : Int32} {yvi yli yco ypr yar ypa yre ybe yck ynx you yfo yrg yce ytp ytl : Nat → Int32}
theorem yo_lr {post : Int32 → Prop} {a b : Int32} {S : Nat} (hS : S ≤ 480) (eS : gtr = nI S) (K : post (nI (sn_s (yt_c ytp ytl a b) S))) : ∀ d i, i + d = 480 → wY_lineRuns_15 post a b gwc grg glm gst ggv grp gra gmd gtr yvi yli yco ypr yar ypa yre ybe yck ynx you yfo yrg yce ytp ytl (d + 1) (nI (sn_s (yt_c ytp ytl a b) (mn_S S i))) (nI i) := by
  intro d
  induction d with
  | zero =>
    intro i hi
    refine br_t (nI_le (a := 480) (by omega) (by omega)) ?_
    rw [(mn_2 (S := S) (i := i) (by omega)).1]; exact K
  | succ d ih =>
    intro i hi
    have ci : (nI i).toNatClampNeg = i := nI_clamp (by omega)
    have k := ih (i + 1) (by omega)
    refine br_f (nI_ge (b := 480) (by omega) (by decide)) ?_
    rw [ci]
    by_cases q : S ≤ i
    · obtain ⟨m1, m2⟩ := mn_2 q
      rw [m2] at k
      rw [m1]
      exact br_t (by rw [eS]; exact nI_le q (by omega)) (nm_r (nI_1 i) k)
    · obtain ⟨m1, m2⟩ := mn_1 (S := S) (i := i) (by omega)
      rw [m2, sn_1] at k
      rw [m1]
      have ii : vp_in (nI i) 480 := vp_in_nI (by omega) (by decide)
      refine br_f (by rw [eS]; exact nI_ge (by omega) (by omega)) ⟨ii, ?_⟩
      by_cases z1 : ytp i = a
      · refine br_t z1 ⟨ii, ?_⟩
        by_cases z2 : ytl i = b
        · have e : yt_c ytp ytl a b i = 1 := if_pos ⟨z1, z2⟩
          rw [e] at k
          exact br_t z2 (nm_r (nI_1 _) (nm_r (nI_1 i) k))
        · have e : yt_c ytp ytl a b i = 0 := if_neg (fun z => z2 z.2)
          rw [e] at k
          exact br_f z2 (nm_r (nI_1 i) k)
      · have e : yt_c ytp ytl a b i = 0 := if_neg (fun z => z1 z.1)
        rw [e] at k
        exact br_f z1 (nm_r (nI_1 i) k)
theorem yo_tf {post : Int32 → Prop} {a b : Int32} {m : Nat} (hm : m ≤ 48) (em : gmd = nI m) (K : post (if b = 3 then nI (sn_s (fun c => if ypa c = a then 1 else 0) m) else if b = 4 then nI (sn_s (fun c => if ypa c = a ∧ ¬ yfo c = 0 then 1 else 0) m) else 0)) : ∀ d i, i + d = 48 → wY_taskField_113 post a b gwc grg glm gst ggv grp gra gmd gtr yvi yli yco ypr yar ypa yre ybe yck ynx you yfo yrg yce ytp ytl (d + 1) (nI (sn_s (fun c => if ypa c = a then 1 else 0) (mn_S m i))) (nI (sn_s (fun c => if ypa c = a ∧ ¬ yfo c = 0 then 1 else 0) (mn_S m i))) (nI i) := by
  intro d
  induction d with
  | zero =>
    intro i hi
    refine br_t (nI_le (a := 48) (by omega) (by omega)) ?_
    rw [(mn_2 (S := m) (i := i) (by omega)).1]
    by_cases q3 : b = 3
    · rw [if_pos q3] at K; exact br_t q3 K
    · rw [if_neg q3] at K
      by_cases q4 : b = 4
      · rw [if_pos q4] at K; exact br_f q3 (br_t q4 K)
      · rw [if_neg q4] at K; exact br_f q3 (br_f q4 K)
  | succ d ih =>
    intro i hi
    have ci : (nI i).toNatClampNeg = i := nI_clamp (by omega)
    have k := ih (i + 1) (by omega)
    refine br_f (nI_ge (b := 48) (by omega) (by decide)) ?_
    rw [ci]
    by_cases q : m ≤ i
    · obtain ⟨m1, m2⟩ := mn_2 q
      rw [m2] at k
      rw [m1]
      exact br_t (by rw [em]; exact nI_le q (by omega)) (nm_r (nI_1 i) k)
    · obtain ⟨m1, m2⟩ := mn_1 (S := m) (i := i) (by omega)
      rw [m2, sn_1, sn_1] at k
      rw [m1]
      have ii : vp_in (nI i) 48 := vp_in_nI (by omega) (by decide)
      refine br_f (by rw [em]; exact nI_ge (by omega) (by omega)) ⟨ii, ?_⟩
      by_cases z1 : ypa i = a
      · rw [if_pos z1] at k
        refine br_t z1 (nm_r (nI_1 _) ⟨ii, ?_⟩)
        by_cases z2 : yfo i = 0
        · rw [if_neg (fun z => z.2 z2)] at k
          exact br_t z2 (nm_r (nI_1 i) k)
        · rw [if_pos ⟨z1, z2⟩] at k
          exact br_f z2 (nm_r (nI_1 _) (nm_r (nI_1 i) k))
      · rw [if_neg z1, if_neg (fun z => z1 z.1)] at k
        exact br_f z1 (nm_r (nI_1 i) k)
theorem yo_lr0 {post : Int32 → Prop} {a b : Int32} {S : Nat} (hS : S ≤ 480) (eS : gtr = nI S) (K : post (nI (sn_s (yt_c ytp ytl a b) S))) : wY_lineRuns_15 post a b gwc grg glm gst ggv grp gra gmd gtr yvi yli yco ypr yar ypa yre ybe yck ynx you yfo yrg yce ytp ytl 481 0 0 := by
  have L : wY_lineRuns_15 post a b gwc grg glm gst ggv grp gra gmd gtr yvi yli yco ypr yar ypa yre ybe yck ynx you yfo yrg yce ytp ytl (480 + 1) (nI (sn_s (yt_c ytp ytl a b) (mn_S S 0))) (nI 0) := yo_lr hS eS K 480 0 (by omega)
  have e0 : mn_S S 0 = 0 := by unfold mn_S; split <;> omega
  rw [e0] at L; exact L
theorem yo_tf0 {post : Int32 → Prop} {a b : Int32} {m : Nat} (hm : m ≤ 48) (em : gmd = nI m) (K : post (if b = 3 then nI (sn_s (fun c => if ypa c = a then 1 else 0) m) else if b = 4 then nI (sn_s (fun c => if ypa c = a ∧ ¬ yfo c = 0 then 1 else 0) m) else 0)) : wY_taskField_113 post a b gwc grg glm gst ggv grp gra gmd gtr yvi yli yco ypr yar ypa yre ybe yck ynx you yfo yrg yce ytp ytl 49 0 0 0 := by
  have L : wY_taskField_113 post a b gwc grg glm gst ggv grp gra gmd gtr yvi yli yco ypr yar ypa yre ybe yck ynx you yfo yrg yce ytp ytl (48 + 1) (nI (sn_s (fun c => if ypa c = a then 1 else 0) (mn_S m 0))) (nI (sn_s (fun c => if ypa c = a ∧ ¬ yfo c = 0 then 1 else 0) (mn_S m 0))) (nI 0) := yo_tf hm em K 48 0 (by omega)
  have e0 : mn_S m 0 = 0 := by unfold mn_S; split <;> omega
  rw [e0] at L; exact L
end
section
theorem i_vc_lineRuns {k : Nat} {u : SX} {v : SY} (I : i_Rel k u v) (hk : k + 5 ≤ 2563) (v1 : Int32) (v2 : Int32) : wpX_lineRuns (fun r => wpY_lineRuns (fun r' => r' = r ∧ i_Rel (k + 5) u v) v v1 v2) u v1 v2 := by
  refine zz_el (P := fun u v => wpX_lineRuns (fun r => wpY_lineRuns (fun r' => r' = r ∧ i_Rel (k + 5) u v) v v1 v2) u v1 v2) ?_ I
  intro k0 k1 k2 k3 k4 k5 k6 k7 k8 k9 k10 k11 k12 k13 k14 k15 k16 k17 k18 k19 fwc frg flm fst fgv fov ffl fmd fwd xlo xla xlb xll xce xlc xtop xbot xslo xaim xph xcu xhe xit xst xsb xpv xtr xpr xar xpa xfk xlk xnk xow xki xfo xre xbe xck xru xpc xjn xbl xrg xod xnu gwc grg glm gst ggv grp gra gmd gtr yvi yli yco ypr yar ypa yre ybe yck ynx you yfo yrg yce ytp ytl I
  obtain ⟨wc, rg, lim, ⟨e1, e2, e3, e4, e5, e6, e7, e8⟩, c, a, y, t, h1, h2⟩ := id I
  by_cases q : fst = 2
  · obtain ⟨m, S, d1, d2, d3, d4, d5, d6, d7, d8, d9, d10, d11, d12⟩ := h2 q
    have q' := e7.trans q
    have Yw : ∀ r : Int32, nI (sn_s (yt_c ytp ytl v1 v2) S) = r → wpY_lineRuns (fun r' => r' = r ∧ i_Rel (k + 5) (k0, k1, k2, k3, k4, k5, k6, k7, k8, k9, k10, k11, k12, k13, k14, k15, k16, k17, k18, k19, fwc, frg, flm, fst, fgv, fov, ffl, fmd, fwd, xlo, xla, xlb, xll, xce, xlc, xtop, xbot, xslo, xaim, xph, xcu, xhe, xit, xst, xsb, xpv, xtr, xpr, xar, xpa, xfk, xlk, xnk, xow, xki, xfo, xre, xbe, xck, xru, xpc, xjn, xbl, xrg, xod, xnu) (gwc, grg, glm, gst, ggv, grp, gra, gmd, gtr, yvi, yli, yco, ypr, yar, ypa, yre, ybe, yck, ynx, you, yfo, yrg, yce, ytp, ytl)) (gwc, grg, glm, gst, ggv, grp, gra, gmd, gtr, yvi, yli, yco, ypr, yar, ypa, yre, ybe, yck, ynx, you, yfo, yrg, yce, ytp, ytl) v1 v2 := by
      intro r er
      exact br_t q' ⟨481, yo_lr0 d5 d7 ⟨er, I⟩⟩
    have z0 : (¬ ∃ p l, p < 4 ∧ l < 10 ∧ v1 = nI p ∧ v2 = nI l) → nI (sn_s (yt_c ytp ytl v1 v2) S) = 0 := by
      intro hno
      rw [sn_z (fun i hi => ?_)]
      · rfl
      · obtain ⟨p, l, x1, x2, x3, x4⟩ := d9 i hi
        refine if_neg (fun z => hno ⟨p, l, x1, x2, ?_, ?_⟩)
        · rw [← z.1]; exact x3
        · rw [← z.2]; exact x4
    by_cases a0 : v1 < 0
    · exact br_t q (br_t a0 (Yw 0 (z0 (by rintro ⟨p, l, x1, x2, rfl, rfl⟩; exact nI_pos (by omega) a0))))
    by_cases a4 : (4 : Int32) ≤ v1
    · refine br_t q (br_f a0 (br_t a4 (Yw 0 (z0 ?_))))
      rintro ⟨p, l, x1, x2, rfl, rfl⟩
      exact nI_ge (b := 4) x1 (by decide) a4
    by_cases b0 : v2 < 0
    · exact br_t q (br_f a0 (br_f a4 (br_t b0 (Yw 0 (z0 (by rintro ⟨p, l, x1, x2, rfl, rfl⟩; exact nI_pos (by omega) b0))))))
    by_cases b4 : v2 < 10
    · obtain ⟨j, hj, rfl⟩ := nI_of a0
      obtain ⟨l, hl, rfl⟩ := nI_of b0
      have j4 : j < 4 := by
        rcases Nat.lt_or_ge j 4 with z | z
        · exact z
        · exact absurd (nI_le (a := 4) z hj) a4
      have l4 : l < 10 := (nI_ltI (b := 10) hl (by decide)).mp b4
      have e : nI j * 10 + nI l = nI (j * 10 + l) := by
        show nI j * nI 10 + nI l = _
        rw [pk_mul, nI_add]
      refine br_t q (br_f a0 (br_f a4 (br_f b0 (br_t b4 ?_))))
      rw [e, nI_clamp (by omega)]
      exact ⟨vp_in_nI (by omega) (by decide), Yw _ (d8 j l j4 l4).symm⟩
    · refine br_t q (br_f a0 (br_f a4 (br_f b0 (br_f b4 (Yw 0 (z0 ?_))))))
      rintro ⟨p, l, x1, x2, rfl, rfl⟩
      exact b4 (nI_lt (b := 10) x2 (by decide))
  · exact br_f q (br_f (fun z => q (e7.symm.trans z)) ⟨rfl, I⟩)
theorem i_vc_taskField {k : Nat} {u : SX} {v : SY} (I : i_Rel k u v) (hk : k + 5 ≤ 2563) (v1 : Int32) (v2 : Int32) : wpX_taskField (fun r => wpY_taskField (fun r' => r' = r ∧ i_Rel (k + 5) u v) v v1 v2) u v1 v2 := by
  refine zz_el (P := fun u v => wpX_taskField (fun r => wpY_taskField (fun r' => r' = r ∧ i_Rel (k + 5) u v) v v1 v2) u v1 v2) ?_ I
  intro k0 k1 k2 k3 k4 k5 k6 k7 k8 k9 k10 k11 k12 k13 k14 k15 k16 k17 k18 k19 fwc frg flm fst fgv fov ffl fmd fwd xlo xla xlb xll xce xlc xtop xbot xslo xaim xph xcu xhe xit xst xsb xpv xtr xpr xar xpa xfk xlk xnk xow xki xfo xre xbe xck xru xpc xjn xbl xrg xod xnu gwc grg glm gst ggv grp gra gmd gtr yvi yli yco ypr yar ypa yre ybe yck ynx you yfo yrg yce ytp ytl I
  obtain ⟨wc, rg, lim, ⟨e1, e2, e3, e4, e5, e6, e7, e8⟩, c, a, y, t, h1, h2⟩ := id I
  by_cases q : fst = 2
  · obtain ⟨m, S, d1, d2, d3, d4, d5, d6, d7, d8, d9, d10, d11, d12⟩ := h2 q
    have q' := e7.trans q
    by_cases a0 : v1 < 0
    · exact br_t q (br_t a0 (br_t q' (br_t a0 ⟨rfl, I⟩)))
    by_cases a4 : v1 < nI m
    · have ax : v1 < fmd := by rw [d3]; exact a4
      have ay : v1 < gmd := by rw [d4]; exact a4
      obtain ⟨n, hn, rfl⟩ := nI_of a0
      have nm : n < m := (nI_ltI hn (by omega)).mp a4
      have cn : (nI n).toNatClampNeg = n := nI_clamp hn
      have iN : vp_in (nI n) 48 := vp_in_nI (by omega) (by decide)
      obtain ⟨t, t1, t2, f0, f1, f5, f6, f7, f8, fp, f3, f4⟩ := d12 n nm
      have ct : (nI t).toNatClampNeg = t := nI_clamp (by omega)
      have iT : vp_in (nI t) 48 := vp_in_nI t1 (by decide)
      have Yl : ∀ r : Int32, ¬ v2 = 0 → ¬ v2 = 1 → ¬ v2 = 2 → ¬ v2 = 5 → ¬ v2 = 6 → ¬ v2 = 7 → ¬ v2 = 8 → (if v2 = 3 then nI (sn_s (fun c => if ypa c = nI n then 1 else 0) m) else if v2 = 4 then nI (sn_s (fun c => if ypa c = nI n ∧ ¬ yfo c = 0 then 1 else 0) m) else 0) = r → wpY_taskField (fun r' => r' = r ∧ i_Rel (k + 5) (k0, k1, k2, k3, k4, k5, k6, k7, k8, k9, k10, k11, k12, k13, k14, k15, k16, k17, k18, k19, fwc, frg, flm, fst, fgv, fov, ffl, fmd, fwd, xlo, xla, xlb, xll, xce, xlc, xtop, xbot, xslo, xaim, xph, xcu, xhe, xit, xst, xsb, xpv, xtr, xpr, xar, xpa, xfk, xlk, xnk, xow, xki, xfo, xre, xbe, xck, xru, xpc, xjn, xbl, xrg, xod, xnu) (gwc, grg, glm, gst, ggv, grp, gra, gmd, gtr, yvi, yli, yco, ypr, yar, ypa, yre, ybe, yck, ynx, you, yfo, yrg, yce, ytp, ytl)) (gwc, grg, glm, gst, ggv, grp, gra, gmd, gtr, yvi, yli, yco, ypr, yar, ypa, yre, ybe, yck, ynx, you, yfo, yrg, yce, ytp, ytl) (nI n) v2 := by
        intro r n0 n1 n2 n5 n6 n7 n8 er
        exact br_t q' (br_f a0 (br_t ay (br_f n0 (br_f n1 (br_f n2 (br_f n5 (br_f n6 (br_f n7 (br_f n8 ⟨49, yo_tf0 d2 d4 ⟨er, I⟩⟩)))))))))
      have xo : xod (nI n).toNatClampNeg = nI t := by rw [cn]; exact t2
      refine br_t q (br_f a0 (br_t ax ⟨iN, nm_r xo ?_⟩))
      rw [ct]
      by_cases b0 : v2 < 0
      · have nx : ∀ j : Nat, j < 100 → ¬ v2 = nI j := fun j hj z => by rw [z] at b0; exact nI_pos (by omega) b0
        refine br_t b0 (Yl 0 (nx 0 (by omega)) (nx 1 (by omega)) (nx 2 (by omega)) (nx 5 (by omega)) (nx 6 (by omega)) (nx 7 (by omega)) (nx 8 (by omega)) ?_)
        rw [if_neg (show ¬ v2 = 3 from nx 3 (by omega)), if_neg (show ¬ v2 = 4 from nx 4 (by omega))]
      by_cases b8 : 8 < v2
      · have nx : ∀ j : Nat, j < 9 → ¬ v2 = nI j := fun j hj z => by
          rw [z] at b8
          exact nI_nlt (a := 8) (b := j) (by omega) (by omega) b8
        refine br_f b0 (br_t b8 (Yl 0 (nx 0 (by omega)) (nx 1 (by omega)) (nx 2 (by omega)) (nx 5 (by omega)) (nx 6 (by omega)) (nx 7 (by omega)) (nx 8 (by omega)) ?_))
        rw [if_neg (show ¬ v2 = 3 from nx 3 (by omega)), if_neg (show ¬ v2 = 4 from nx 4 (by omega))]
      refine br_f b0 (br_f b8 ?_)
      obtain ⟨j, hj, rfl⟩ := nI_of b0
      have j8 : j ≤ 8 := by
        rcases Nat.lt_or_ge 8 j with z | z
        · exact absurd (nI_lt (a := 8) z hj) b8
        · exact z
      have jc : j = 0 ∨ j = 1 ∨ j = 2 ∨ j = 3 ∨ j = 4 ∨ j = 5 ∨ j = 6 ∨ j = 7 ∨ j = 8 := by omega
      rcases jc with rfl | rfl | rfl | rfl | rfl | rfl | rfl | rfl | rfl
      · refine br_t rfl ⟨iT, br_t q' (br_f a0 (br_t ay (br_t rfl ⟨iN, ?_, I⟩)))⟩
        rw [cn]; exact f0.symm
      · refine br_f (by decide) (br_t rfl ⟨iT, br_t q' (br_f a0 (br_t ay (br_f (by decide) (br_t rfl ⟨iN, ?_, I⟩))))⟩)
        rw [cn]; exact f1.symm
      · refine br_f (by decide) (br_f (by decide) (br_t rfl ⟨iT, ?_⟩))
        rcases fp with ⟨g1, g2⟩ | ⟨w, w1, w2, w3⟩
        · refine br_f (by rw [g1]; decide) (br_t q' (br_f a0 (br_t ay (br_f (by decide) (br_f (by decide) (br_t rfl ⟨iN, ?_, I⟩))))))
          rw [cn]; exact g2
        · rw [w2, nI_clamp (by omega)]
          refine br_t (nI_pos' (by omega)) ⟨iT, ⟨vp_in_nI w1 (by decide), br_t q' (br_f a0 (br_t ay (br_f (by decide) (br_f (by decide) (br_t rfl ⟨iN, ?_, I⟩)))))⟩⟩
          rw [cn]; exact w3.symm
      · exact br_f (by decide) (br_f (by decide) (br_f (by decide) (br_t rfl ⟨iT, Yl _ (by decide) (by decide) (by decide) (by decide) (by decide) (by decide) (by decide) (by rw [if_pos (by rfl)]; exact f3.symm)⟩)))
      · exact br_f (by decide) (br_f (by decide) (br_f (by decide) (br_f (by decide) (br_t rfl ⟨iT, Yl _ (by decide) (by decide) (by decide) (by decide) (by decide) (by decide) (by decide) (by rw [if_neg (by decide), if_pos (by rfl)]; exact f4.symm)⟩))))
      · refine br_f (by decide) (br_f (by decide) (br_f (by decide) (br_f (by decide) (br_f (by decide) (br_t rfl ⟨iT, br_t q' (br_f a0 (br_t ay (br_f (by decide) (br_f (by decide) (br_f (by decide) (br_t rfl ⟨iN, ?_, I⟩))))))⟩)))))
        rw [cn]; exact f5.symm
      · refine br_f (by decide) (br_f (by decide) (br_f (by decide) (br_f (by decide) (br_f (by decide) (br_f (by decide) (br_t rfl ⟨iT, br_t q' (br_f a0 (br_t ay (br_f (by decide) (br_f (by decide) (br_f (by decide) (br_f (by decide) (br_t rfl ⟨iN, ?_, I⟩)))))))⟩))))))
        rw [cn]; exact f6.symm
      · refine br_f (by decide) (br_f (by decide) (br_f (by decide) (br_f (by decide) (br_f (by decide) (br_f (by decide) (br_f (by decide) (br_t rfl ⟨iT, br_t q' (br_f a0 (br_t ay (br_f (by decide) (br_f (by decide) (br_f (by decide) (br_f (by decide) (br_f (by decide) (br_t rfl ⟨iN, ?_, I⟩))))))))⟩)))))))
        rw [cn]; exact f7.symm
      · exact br_f (by decide) (br_f (by decide) (br_f (by decide) (br_f (by decide) (br_f (by decide) (br_f (by decide) (br_f (by decide) (br_f (by decide) (br_t rfl ⟨iT, br_t q' (br_f a0 (br_t ay (br_f (by decide) (br_f (by decide) (br_f (by decide) (br_f (by decide) (br_f (by decide) (br_f (by decide) (br_t rfl ⟨f8.symm, I⟩)))))))))⟩))))))))
    · exact br_t q (br_f a0 (br_f (by rw [d3]; exact a4) (br_t q' (br_f a0 (br_f (by rw [d4]; exact a4) ⟨rfl, I⟩)))))
  · exact br_f q (br_f (fun z => q (e7.symm.trans z)) ⟨rfl, I⟩)
end
end
section
/-! the run's calls -/
section
variable {wc rg lim : Nat} {ai lO lA lB lL : Nat → Int32} {ov : Int32} {μ pr : Nat} {ph : Nat → Int32} {u' : SX} {gwc grg glm gst ggv grp gra gmd gtr : Int32} {yvi yli yco ypr yar ypa yre ybe yck ynx you yfo yrg yce ytp ytl : Nat → Int32}
theorem zr_run {k : Nat} (C : xr_C wc rg lim ai lO lA lB lL) (a : ∀ w, w < wc → yvi w = ai w) (y : yr_G (lO, lA, lB, fun p => (lL p).toNatClampNeg) yli yco) (e2 : gwc = nI wc) (e4 : grg = nI rg) (e6 : glm = nI lim) (est : gst = 1) (hp : pr < 4) (erp : grp = nI pr) (h : xr_R wc rg lim 1 ggv ai lO lA lB lL (pr, gra, 0) ov μ ph u') : i_Rel k u' (gwc, grg, glm, gst, ggv, grp, gra, gmd, gtr, yvi, yli, yco, ypr, yar, ypa, yre, ybe, yck, ynx, you, yfo, yrg, yce, ytp, ytl) := by
  revert h
  refine xw_eta (P := fun u' => xr_R wc rg lim 1 ggv ai lO lA lB lL (pr, gra, 0) ov μ ph u' → i_Rel k u' (gwc, grg, glm, gst, ggv, grp, gra, gmd, gtr, yvi, yli, yco, ypr, yar, ypa, yre, ybe, yck, ynx, you, yfo, yrg, yce, ytp, ytl)) ?_ u'
  intro k0 k1 k2 k3 k4 k5 k6 k7 k8 k9 k10 k11 k12 k13 k14 k15 k16 k17 k18 k19 fwc frg flm fst fgv fov ffl fmd fwd xlo xla xlb xll xce xlc xtop xbot xslo xaim xph xcu xhe xit xst xsb xpv xtr xpr xar xpa xfk xlk xnk xow xki xfo xre xbe xck xru xpc xjn xbl xrg xod xnu h
  have h' := h
  obtain ⟨⟨x1, x2, x3, x4, x5, x6, x7, x8, x9, x10, x11, x12⟩, tops, rest⟩ := h
  subst x5 x6 x7 x8 x9 x10 x11
  refine ⟨wc, rg, lim, ⟨x1, e2, x2, e4, x3, e6, est.trans x4.symm, rfl⟩, C, a, y, tops, fun _ => ⟨pr, ov, μ, hp, erp, h'⟩, fun z => ?_⟩
  rw [x4] at z; exact absurd z (by decide)
theorem yt_lp {post : Int32 → SY → Prop} {x : Int32} (e2 : gwc = nI wc) : ∀ (d i : Nat) (c : Int32), i + d = 16 → post (tn_c wc x d i c) (gwc, grg, glm, gst, ggv + tn_c wc x d i c, grp, gra, gmd, gtr, yvi, yli, yco, ypr, yar, ypa, yre, ybe, yck, ynx, you, yfo, yrg, yce, ytp, ytl) → wY_turns_15 post x gwc grg glm gst ggv grp gra gmd gtr yvi yli yco ypr yar ypa yre ybe yck ynx you yfo yrg yce ytp ytl (d + 1) c (nI i) := by
  intro d
  induction d with
  | zero => intro i c hi K; exact br_t (nI_le (a := 16) (by omega) (by omega)) (nm_e K)
  | succ d ih =>
    intro i c hi K
    have A : ¬ (16 : Int32) ≤ nI i := nI_ge (b := 16) (by omega) (by decide)
    by_cases hc : nI wc ≤ ((x.toUInt32 >>> ((2 * nI i).toUInt32 &&& Int32.toUInt32 31)).toInt32) &&& 3
    · have et : tn_c wc x (d + 1) i c = tn_c wc x d (i + 1) c := by
        show tn_c wc x d (i + 1) (if _ then c else c + 1) = _
        rw [if_pos hc]
      rw [et] at K
      exact br_f A (nm_e (br_t (by rw [e2]; exact hc) (nm_r (nI_1 i) (ih (i + 1) c (by omega) K))))
    · have et : tn_c wc x (d + 1) i c = tn_c wc x d (i + 1) (c + 1) := by
        show tn_c wc x d (i + 1) (if _ then c else c + 1) = _
        rw [if_neg hc]
      rw [et] at K
      exact br_f A (nm_e (br_f (by rw [e2]; exact hc) (nm_e (nm_r (nI_1 i) (ih (i + 1) (c + 1) (by omega) K)))))
end
section
theorem xr_gv {wc rg lim : Nat} {s gv gv' : Int32} {ai lO lA lB lL : Nat → Int32} {p : zl_P} {ov : Int32} {μ : Nat} {ph : Nat → Int32} {k0 k1 k2 k3 k4 k5 k6 k7 k8 k9 k10 k11 k12 k13 k14 k15 k16 k17 k18 k19 fwc frg flm fst fgv fov ffl fmd fwd : Int32} {xlo xla xlb xll xce xlc xtop xbot xslo xaim xph xcu xhe xit xst xsb xpv xtr xpr xar xpa xfk xlk xnk xow xki xfo xre xbe xck xru xpc xjn xbl xrg xod xnu : Nat → Int32} (h : xr_R wc rg lim s gv ai lO lA lB lL p ov μ ph (k0, k1, k2, k3, k4, k5, k6, k7, k8, k9, k10, k11, k12, k13, k14, k15, k16, k17, k18, k19, fwc, frg, flm, fst, fgv, fov, ffl, fmd, fwd, xlo, xla, xlb, xll, xce, xlc, xtop, xbot, xslo, xaim, xph, xcu, xhe, xit, xst, xsb, xpv, xtr, xpr, xar, xpa, xfk, xlk, xnk, xow, xki, xfo, xre, xbe, xck, xru, xpc, xjn, xbl, xrg, xod, xnu)) : xr_R wc rg lim s gv' ai lO lA lB lL p ov μ ph (k0, k1, k2, k3, k4, k5, k6, k7, k8, k9, k10, k11, k12, k13, k14, k15, k16, k17, k18, k19, fwc, frg, flm, fst, gv', fov, ffl, fmd, fwd, xlo, xla, xlb, xll, xce, xlc, xtop, xbot, xslo, xaim, xph, xcu, xhe, xit, xst, xsb, xpv, xtr, xpr, xar, xpa, xfk, xlk, xnk, xow, xki, xfo, xre, xbe, xck, xru, xpc, xjn, xbl, xrg, xod, xnu) := by
  obtain ⟨⟨a1, a2, a3, a4, a5, a6⟩, h2⟩ := h
  exact ⟨⟨a1, a2, a3, a4, rfl, a6⟩, h2⟩
theorem i_vc_turn {k : Nat} {u : SX} {v : SY} (I : i_Rel k u v) (hk : k + 5 ≤ 2563) (v1 : Int32) : wpX_turn (fun r u' => wpY_turn (fun r' v' => r' = r ∧ i_Rel (k + 5) u' v') v v1) u v1 := by
  refine zz_el (P := fun u v => wpX_turn (fun r u' => wpY_turn (fun r' v' => r' = r ∧ i_Rel (k + 5) u' v') v v1) u v1) ?_ I
  intro k0 k1 k2 k3 k4 k5 k6 k7 k8 k9 k10 k11 k12 k13 k14 k15 k16 k17 k18 k19 fwc frg flm fst fgv fov ffl fmd fwd xlo xla xlb xll xce xlc xtop xbot xslo xaim xph xcu xhe xit xst xsb xpv xtr xpr xar xpa xfk xlk xnk xow xki xfo xre xbe xck xru xpc xjn xbl xrg xod xnu gwc grg glm gst ggv grp gra gmd gtr yvi yli yco ypr yar ypa yre ybe yck ynx you yfo yrg yce ytp ytl I
  obtain ⟨wc, rg, lim, ⟨e1, e2, e3, e4, e5, e6, e7, e8⟩, c, a, y, t, h1, h2⟩ := id I
  have c2 := c.2.1
  by_cases s1 : fst = 1
  · have s1' := e7.trans s1
    by_cases a0 : v1 < 0
    · exact br_t s1 (br_t a0 (br_t s1' (br_t a0 ⟨rfl, I⟩)))
    by_cases a4 : v1 < nI wc
    · have ax : v1 < fwc := by rw [e1]; exact a4
      have ay : v1 < gwc := by rw [e2]; exact a4
      obtain ⟨j, hj, rfl⟩ := nI_of a0
      have jw : j < wc := (nI_ltI hj (by omega)).mp a4
      obtain ⟨pr, ov, μ, x1, x2, x3⟩ := h1 s1
      refine br_t s1 (br_f a0 (br_t ax (nm_e ?_)))
      refine xr_step c (xr_gv (gv' := fgv + 1) x3) (by rw [nI_clamp hj]; exact jw) (vp_in_nI (by omega) (by decide)) ?_
      intro u' ov' μ' ph' h' _ _ _
      have K : i_Rel (k + 5) u' (gwc, grg, glm, gst, ggv + 1, grp, gra, gmd, gtr, yvi, yli, yco, ypr, yar, ypa, yre, ybe, yck, ynx, you, yfo, yrg, yce, ytp, ytl) := zr_run c a y e2 e4 e6 s1' x1 x2 (by rw [e8]; exact h')
      revert K
      refine xw_eta (P := fun u' => i_Rel (k + 5) u' (gwc, grg, glm, gst, ggv + 1, grp, gra, gmd, gtr, yvi, yli, yco, ypr, yar, ypa, yre, ybe, yck, ynx, you, yfo, yrg, yce, ytp, ytl) → (match u' with | (k0, k1, k2, k3, k4, k5, k6, k7, k8, k9, k10, k11, k12, k13, k14, k15, k16, k17, k18, k19, fwc, frg, flm, fst, fgv, fov, ffl, fmd, fwd, xlo, xla, xlb, xll, xce, xlc, xtop, xbot, xslo, xaim, xph, xcu, xhe, xit, xst, xsb, xpv, xtr, xpr, xar, xpa, xfk, xlk, xnk, xow, xki, xfo, xre, xbe, xck, xru, xpc, xjn, xbl, xrg, xod, xnu) => wpY_turn (fun r' v' => r' = 0 ∧ i_Rel (k + 5) (k0, k1, k2, k3, k4, k5, k6, k7, k8, k9, k10, k11, k12, k13, k14, k15, k16, k17, k18, k19, fwc, frg, flm, fst, fgv, fov, ffl, fmd, fwd, xlo, xla, xlb, xll, xce, xlc, xtop, xbot, xslo, xaim, xph, xcu, xhe, xit, xst, xsb, xpv, xtr, xpr, xar, xpa, xfk, xlk, xnk, xow, xki, xfo, xre, xbe, xck, xru, xpc, xjn, xbl, xrg, xod, xnu) v') (gwc, grg, glm, gst, ggv, grp, gra, gmd, gtr, yvi, yli, yco, ypr, yar, ypa, yre, ybe, yck, ynx, you, yfo, yrg, yce, ytp, ytl) (nI j))) ?_ u'
      intro k0 k1 k2 k3 k4 k5 k6 k7 k8 k9 k10 k11 k12 k13 k14 k15 k16 k17 k18 k19 fwc frg flm fst fgv fov ffl fmd fwd xlo xla xlb xll xce xlc xtop xbot xslo xaim xph xcu xhe xit xst xsb xpv xtr xpr xar xpa xfk xlk xnk xow xki xfo xre xbe xck xru xpc xjn xbl xrg xod xnu K
      exact br_t s1' (br_f a0 (br_t ay (nm_e ⟨rfl, K⟩)))
    · exact br_t s1 (br_f a0 (br_f (by rw [e1]; exact a4) (br_t s1' (br_f a0 (br_f (by rw [e2]; exact a4) ⟨rfl, I⟩)))))
  · exact br_f s1 (br_f (fun z => s1 (e7.symm.trans z)) ⟨rfl, I⟩)
theorem i_vc_turns {k : Nat} {u : SX} {v : SY} (I : i_Rel k u v) (hk : k + 5 ≤ 2563) (v1 : Int32) : wpX_turns (fun r u' => wpY_turns (fun r' v' => r' = r ∧ i_Rel (k + 5) u' v') v v1) u v1 := by
  refine zz_el (P := fun u v => wpX_turns (fun r u' => wpY_turns (fun r' v' => r' = r ∧ i_Rel (k + 5) u' v') v v1) u v1) ?_ I
  intro k0 k1 k2 k3 k4 k5 k6 k7 k8 k9 k10 k11 k12 k13 k14 k15 k16 k17 k18 k19 fwc frg flm fst fgv fov ffl fmd fwd xlo xla xlb xll xce xlc xtop xbot xslo xaim xph xcu xhe xit xst xsb xpv xtr xpr xar xpa xfk xlk xnk xow xki xfo xre xbe xck xru xpc xjn xbl xrg xod xnu gwc grg glm gst ggv grp gra gmd gtr yvi yli yco ypr yar ypa yre ybe yck ynx you yfo yrg yce ytp ytl I
  obtain ⟨wc, rg, lim, ⟨e1, e2, e3, e4, e5, e6, e7, e8⟩, c, a, y, t, h1, h2⟩ := id I
  by_cases s1 : fst = 1
  · have s1' := e7.trans s1
    obtain ⟨pr, ov, μ, x1, x2, x3⟩ := h1 s1
    have L := xr_turns (post := fun r u' => wpY_turns (fun r' v' => r' = r ∧ i_Rel (k + 5) u' v') (gwc, grg, glm, gst, ggv, grp, gra, gmd, gtr, yvi, yli, yco, ypr, yar, ypa, yre, ybe, yck, ynx, you, yfo, yrg, yce, ytp, ytl) v1) c (x := v1) 16 0 0 (k0, k1, k2, k3, k4, k5, k6, k7, k8, k9, k10, k11, k12, k13, k14, k15, k16, k17, k18, k19, fwc, frg, flm, fst, fgv, fov, ffl, fmd, fwd, xlo, xla, xlb, xll, xce, xlc, xtop, xbot, xslo, xaim, xph, xcu, xhe, xit, xst, xsb, xpv, xtr, xpr, xar, xpa, xfk, xlk, xnk, xow, xki, xfo, xre, xbe, xck, xru, xpc, xjn, xbl, xrg, xod, xnu) ov μ xph (by omega) x3 (by
      intro u' ov' μ' ph' h'
      have K : i_Rel (k + 5) u' (gwc, grg, glm, gst, ggv + tn_c wc v1 16 0 0, grp, gra, gmd, gtr, yvi, yli, yco, ypr, yar, ypa, yre, ybe, yck, ynx, you, yfo, yrg, yce, ytp, ytl) := zr_run c a y e2 e4 e6 s1' x1 x2 (by rw [e8]; exact h')
      exact br_t s1' ⟨17, yt_lp (x := v1) e2 16 0 0 (by omega) ⟨rfl, K⟩⟩)
    exact br_t s1 ⟨17, L⟩
  · exact br_f s1 (br_f (fun z => s1 (e7.symm.trans z)) ⟨rfl, I⟩)
theorem i_vc_start {k : Nat} {u : SX} {v : SY} (I : i_Rel k u v) (hk : k + 5 ≤ 2563) (v1 : Int32) (v2 : Int32) : wpX_start (fun r u' => wpY_start (fun r' v' => r' = r ∧ i_Rel (k + 5) u' v') v v1 v2) u v1 v2 := by
  refine zz_el (P := fun u v => wpX_start (fun r u' => wpY_start (fun r' v' => r' = r ∧ i_Rel (k + 5) u' v') v v1 v2) u v1 v2) ?_ I
  intro k0 k1 k2 k3 k4 k5 k6 k7 k8 k9 k10 k11 k12 k13 k14 k15 k16 k17 k18 k19 fwc frg flm fst fgv fov ffl fmd fwd xlo xla xlb xll xce xlc xtop xbot xslo xaim xph xcu xhe xit xst xsb xpv xtr xpr xar xpa xfk xlk xnk xow xki xfo xre xbe xck xru xpc xjn xbl xrg xod xnu gwc grg glm gst ggv grp gra gmd gtr yvi yli yco ypr yar ypa yre ybe yck ynx you yfo yrg yce ytp ytl I
  obtain ⟨wc, rg, lim, ⟨e1, e2, e3, e4, e5, e6, e7, e8⟩, c, a, y, t, h1, h2⟩ := id I
  by_cases s1 : fst = 1
  · exact br_t s1 (br_t (e7.trans s1) ⟨rfl, I⟩)
  have s1' : ¬ gst = 1 := fun z => s1 (e7.symm.trans z)
  by_cases a0 : v1 < 0
  · exact br_f s1 (br_t a0 (br_f s1' (br_t a0 ⟨rfl, I⟩)))
  by_cases a4 : v1 < 4
  · obtain ⟨j, hj, rfl⟩ := nI_of a0
    have j4 : j < 4 := (nI_ltI (b := 4) hj (by decide)).mp a4
    refine xi_start c e1 e3 e5 s1 j4 t ?_
    intro u' μ ph h'
    have K : i_Rel (k + 5) u' (gwc, grg, glm, 1, 0, nI j, v2, gmd, gtr, yvi, yli, yco, ypr, yar, ypa, yre, ybe, yck, ynx, you, yfo, yrg, yce, ytp, ytl) := zr_run c a y e2 e4 e6 rfl j4 rfl h'
    exact br_f s1' (br_f a0 (br_t a4 ⟨rfl, K⟩))
  · exact br_f s1 (br_f a0 (br_f a4 (br_f s1' (br_f a0 (br_f a4 ⟨rfl, I⟩)))))
theorem i_vc_settle {k : Nat} {u : SX} {v : SY} (I : i_Rel k u v) (hk : k + 5 ≤ 2563) : wpX_settle (fun r u' => wpY_settle (fun r' v' => r' = r ∧ i_Rel (k + 5) u' v') v) u := by
  refine zz_el (P := fun u v => wpX_settle (fun r u' => wpY_settle (fun r' v' => r' = r ∧ i_Rel (k + 5) u' v') v) u) ?_ I
  intro k0 k1 k2 k3 k4 k5 k6 k7 k8 k9 k10 k11 k12 k13 k14 k15 k16 k17 k18 k19 fwc frg flm fst fgv fov ffl fmd fwd xlo xla xlb xll xce xlc xtop xbot xslo xaim xph xcu xhe xit xst xsb xpv xtr xpr xar xpa xfk xlk xnk xow xki xfo xre xbe xck xru xpc xjn xbl xrg xod xnu gwc grg glm gst ggv grp gra gmd gtr yvi yli yco ypr yar ypa yre ybe yck ynx you yfo yrg yce ytp ytl I
  obtain ⟨wc, rg, lim, ⟨e1, e2, e3, e4, e5, e6, e7, e8⟩, c, a, y, t, h1, h2⟩ := id I
  by_cases s1 : fst = 1
  · have s1' := e7.trans s1
    obtain ⟨pr, ov, μ, x1, x2, x3⟩ := h1 s1
    have PG := c.2.2.2.2.2.2.1
    have l1 := c.2.2.2.1
    have l48 := c.2.2.2.2.1
    refine xi_settle c x3 ?_ ?_
    · intro k0' k1' k2' k3' k4' k5' k6' k7' k8' k9' k10' k11' k12' k13' k14' k15' k16' k17' k18' k19' fwc' frg' flm' fst' fgv' fov' ffl' fmd' fwd' xlo' xla' xlb' xll' xce' xlc' xtop' xbot' xslo' xaim' xph' xcu' xhe' xit' xst' xsb' xpv' xtr' xpr' xar' xpa' xfk' xlk' xnk' xow' xki' xfo' xre' xbe' xck' xru' xpc' xjn' xbl' xrg' xod' xnu' f1 f2 f3 f5 f6 f7 f8 f9 f10 tops m st par kx kid pm R D e he hee
      subst f5 f6 f7 f8 f9 f10
      refine yi_settle PG y l1 l48 e6 s1' x1 x2 ?_ ?_
      · intro m2 st2 par2 kx2 kid2 pm2 t2 gmd gtr ypr yar ypa yre ybe yck ynx you yfo yrg yce ytp ytl ml p0 G2 ht2 nd2 hs2
        have := zq_n G2 R.2.2.2.1 D (p0.trans R.2.1.symm) ht2 nd2 hs2
        have := R.1
        omega
      · intro m2 st2 par2 kx2 kid2 pm2 gmd gtr ypr yar ypa yre ybe yck ynx you yfo yrg yce ytp ytl Y2 D2
        exact ⟨rfl, wc, rg, lim, ⟨f1, e2, f2, e4, f3, e6, rfl, e8⟩, c, a, y, tops, fun z => absurd z (by decide), fun _ => dn_mk l48 PG R D Y2 D2 he hee⟩
    · intro k0' k1' k2' k3' k4' k5' k6' k7' k8' k9' k10' k11' k12' k13' k14' k15' k16' k17' k18' k19' fwc' frg' flm' fst' fgv' fov' ffl' fmd' fwd' xlo' xla' xlb' xll' xce' xlc' xtop' xbot' xslo' xaim' xph' xcu' xhe' xit' xst' xsb' xpv' xtr' xpr' xar' xpa' xfk' xlk' xnk' xow' xki' xfo' xre' xbe' xck' xru' xpc' xjn' xbl' xrg' xod' xnu' f1 f2 f3 f5 f6 f7 f8 f9 f10 tops m st par kx kid pm R ml D
      subst f5 f6 f7 f8 f9 f10
      refine yi_settle PG y l1 l48 e6 s1' x1 x2 ?_ ?_
      · intro m2 st2 par2 kx2 kid2 pm2 t2 gmd gtr ypr yar ypa yre ybe yck ynx you yfo yrg yce ytp ytl _ _ _ _ _ _
        exact ⟨rfl, wc, rg, lim, ⟨f1, e2, f2, e4, f3, e6, rfl, e8⟩, c, a, y, tops, fun z => absurd z (by decide), fun z => absurd z (by decide)⟩
      · intro m2 st2 par2 kx2 kid2 pm2 gmd gtr ypr yar ypa yre ybe yck ynx you yfo yrg yce ytp ytl Y2 D2
        obtain ⟨t2, ht2, nd2, hs2⟩ := D
        have := zq_n R.2.2.2.1 Y2.2.2.2.1 D2 (R.2.1.trans Y2.2.1.symm) ht2 nd2 hs2
        have := Y2.1
        omega
  · exact br_f s1 (br_f (fun z => s1 (e7.symm.trans z)) ⟨rfl, I⟩)
end
end
section
/-! the constructors -/
section
def cl_v (x n : Int32) : Int32 := if 1 ≤ x then (if x ≤ n then x else n) else 1
theorem cl_e (x : Int32) {N : Nat} (hN : 1 ≤ N ∧ N ≤ 100) : ∃ j, 1 ≤ j ∧ j ≤ N ∧ cl_v x (nI N) = nI j := by
  unfold cl_v
  by_cases h : 1 ≤ x
  · rw [if_pos h]
    by_cases h2 : x ≤ nI N
    · rw [if_pos h2]
      have x0 : ¬ x < 0 := by
        rw [Int32.le_iff_toInt_le, show (1 : Int32).toInt = 1 from by decide] at h
        rw [Int32.lt_iff_toInt_lt, show (0 : Int32).toInt = 0 from by decide]; omega
      obtain ⟨j, hj, rfl⟩ := nI_of x0
      exact ⟨j, (nI_leI (a := 1) (by decide) hj).mp h, (nI_leI hj (by omega)).mp h2, rfl⟩
    · rw [if_neg h2]; exact ⟨N, hN.1, Nat.le_refl _, rfl⟩
  · rw [if_neg h]; exact ⟨1, Nat.le_refl _, hN.1, rfl⟩
theorem cl_X {post : Int32 → Prop} {u : SX} {x n : Int32} (K : post (cl_v x n)) : wpX_clamp post u x n := by
  refine xw_eta (P := fun u => wpX_clamp post u x n) ?_ u
  intro k0 k1 k2 k3 k4 k5 k6 k7 k8 k9 k10 k11 k12 k13 k14 k15 k16 k17 k18 k19 fwc frg flm fst fgv fov ffl fmd fwd xlo xla xlb xll xce xlc xtop xbot xslo xaim xph xcu xhe xit xst xsb xpv xtr xpr xar xpa xfk xlk xnk xow xki xfo xre xbe xck xru xpc xjn xbl xrg xod xnu
  unfold cl_v at K
  by_cases h : 1 ≤ x
  · rw [if_pos h] at K
    by_cases h2 : x ≤ n
    · rw [if_pos h2] at K; exact br_t h (br_t h2 K)
    · rw [if_neg h2] at K; exact br_t h (br_f h2 K)
  · rw [if_neg h] at K; exact br_f h K
theorem cl_Y {post : Int32 → Prop} {u : SY} {x n : Int32} (K : post (cl_v x n)) : wpY_clamp post u x n := by
  refine yw_eta (P := fun u => wpY_clamp post u x n) ?_ u
  intro gwc grg glm gst ggv grp gra gmd gtr yvi yli yco ypr yar ypa yre ybe yck ynx you yfo yrg yce ytp ytl
  unfold cl_v at K
  by_cases h : 1 ≤ x
  · rw [if_pos h] at K
    by_cases h2 : x ≤ n
    · rw [if_pos h2] at K; exact br_t h (br_t h2 K)
    · rw [if_neg h2] at K; exact br_t h (br_f h2 K)
  · rw [if_neg h] at K; exact br_f h K
def ai_v (wc w : Nat) : Int32 := if w + 1 < wc then nI (w + 1) else 0
theorem in_X {post : SX → Prop} {wc : Nat} (hw : wc ≤ 4) {k0 k1 k2 k3 k4 k5 k6 k7 k8 k9 k10 k11 k12 k13 k14 k15 k16 k17 k18 k19 fwc frg flm fst fgv fov ffl fmd fwd : Int32} {xlo xla xlb xll xce xlc xtop xbot xslo xaim xph xcu xhe xit xst xsb xpv xtr xpr xar xpa xfk xlk xnk xow xki xfo xre xbe xck xru xpc xjn xbl xrg xod xnu : Nat → Int32} (e : fwc = nI wc) (K : ∀ ai' : Nat → Int32, (∀ w, w < wc → ai' w = ai_v wc w) → post (k0, k1, k2, k3, k4, k5, k6, k7, k8, k9, k10, k11, k12, k13, k14, k15, k16, k17, k18, k19, fwc, frg, flm, 0, fgv, fov, ffl, fmd, fwd, xlo, xla, xlb, xll, xce, xlc, xtop, xbot, xslo, ai', xph, xcu, xhe, xit, xst, xsb, xpv, xtr, xpr, xar, xpa, xfk, xlk, xnk, xow, xki, xfo, xre, xbe, xck, xru, xpc, xjn, xbl, xrg, xod, xnu)) : ∀ (d i : Nat) (ai' : Nat → Int32), i + d = wc → (∀ w, w < i → ai' w = ai_v wc w) → wX_init_437 post k0 k1 k2 k3 k4 k5 k6 k7 k8 k9 k10 k11 k12 k13 k14 k15 k16 k17 k18 k19 fwc frg flm fst fgv fov ffl fmd fwd (d + 1) (nI i) xlo xla xlb xll xce xlc xtop xbot xslo ai' xph xcu xhe xit xst xsb xpv xtr xpr xar xpa xfk xlk xnk xow xki xfo xre xbe xck xru xpc xjn xbl xrg xod xnu := by
  intro d
  induction d with
  | zero => intro i ai' hi h; exact br_t (by rw [e]; exact nI_le (by omega) (by omega)) (K ai' (fun w hw2 => h w (by omega)))
  | succ d ih =>
    intro i ai' hi h
    have ci : (nI i).toNatClampNeg = i := nI_clamp (by omega)
    have ii : vp_in (nI i) 4 := vp_in_nI (by omega) (by decide)
    refine br_f (by rw [e]; exact nI_ge (by omega) (by omega)) (nm_r (nI_1 i) (br_c (fun z => ⟨ii, nm_e (nm_r (nI_1 i) ?_)⟩) (fun z => ⟨ii, nm_e (nm_r (nI_1 i) ?_)⟩)))
    · rw [e, nI_leI (by omega) (by omega)] at z
      rw [ci]
      refine ih (i + 1) _ (by omega) (fun w hw2 => ?_)
      by_cases q : w = i
      · subst q; rw [us_s]; exact (if_neg (by omega)).symm
      · rw [us_n q]; exact h w (by omega)
    · rw [e, nI_leI (by omega) (by omega)] at z
      rw [ci]
      refine ih (i + 1) _ (by omega) (fun w hw2 => ?_)
      by_cases q : w = i
      · subst q; rw [us_s]; exact (if_pos (by omega)).symm
      · rw [us_n q]; exact h w (by omega)
theorem in_Y {post : SY → Prop} {wc : Nat} (hw : wc ≤ 4) {gwc grg glm gst ggv grp gra gmd gtr : Int32} {yvi yli yco ypr yar ypa yre ybe yck ynx you yfo yrg yce ytp ytl : Nat → Int32} (e : gwc = nI wc) (K : ∀ vi' : Nat → Int32, (∀ w, w < 4 → vi' w = ai_v wc w) → post (gwc, grg, glm, gst, ggv, grp, gra, gmd, gtr, vi', yli, yco, ypr, yar, ypa, yre, ybe, yck, ynx, you, yfo, yrg, yce, ytp, ytl)) : ∀ (d i : Nat) (vi' : Nat → Int32), i + d = 4 → (∀ w, w < i → vi' w = ai_v wc w) → wY_init_172 post gwc grg glm gst ggv grp gra gmd gtr (d + 1) (nI i) vi' yli yco ypr yar ypa yre ybe yck ynx you yfo yrg yce ytp ytl := by
  intro d
  induction d with
  | zero => intro i vi' hi h; exact br_t (nI_le (a := 4) (by omega) (by omega)) (K vi' (fun w hw2 => h w (by omega)))
  | succ d ih =>
    intro i vi' hi h
    have ci : (nI i).toNatClampNeg = i := nI_clamp (by omega)
    have ii : vp_in (nI i) 4 := vp_in_nI (by omega) (by decide)
    refine br_f (nI_ge (b := 4) (by omega) (by decide)) ?_
    rw [nI_1 i, ci]
    refine br_c (fun z => ⟨ii, nm_e (nm_e ?_)⟩) (fun z => ⟨ii, nm_e (nm_e ?_)⟩)
    · rw [e, nI_leI (by omega) (by omega)] at z
      refine ih (i + 1) _ (by omega) (fun w hw2 => ?_)
      by_cases q : w = i
      · subst q; rw [us_s]; exact (if_neg (by omega)).symm
      · rw [us_n q]; exact h w (by omega)
    · rw [e, nI_leI (by omega) (by omega)] at z
      refine ih (i + 1) _ (by omega) (fun w hw2 => ?_)
      by_cases q : w = i
      · subst q; rw [us_s]; exact (if_pos (by omega)).symm
      · rw [us_n q]; exact h w (by omega)
theorem i_vc0 (k0 : Int32) (k1 : Int32) (k2 : Int32) : wpX_init (fun u => wpY_init (fun v => i_Rel 3 u v) k0 k1 k2) k0 k1 k2 := by
  obtain ⟨wc, w1, w2, w3⟩ := cl_e k0 (N := 4) (by omega)
  obtain ⟨rg, r1, r2, r3⟩ := cl_e k1 (N := 8) (by omega)
  obtain ⟨lim, l1, l2, l3⟩ := cl_e k2 (N := 48) (by omega)
  refine cl_X (cl_X (cl_X ⟨wc + 1, ?_⟩))
  refine in_X (wc := wc) (xaim := fun _ => 0) w2 w3 ?_ wc 0 (fun _ => 0) (by omega) (fun w hw => by omega)
  intro ai' hai
  refine cl_Y (cl_Y (cl_Y ⟨5, ?_⟩))
  refine in_Y (wc := wc) (yvi := fun _ => 0) w2 w3 ?_ 4 0 (fun _ => 0) (by omega) (fun w hw => by omega)
  intro vi' hvi
  have c0 : (0 : Int32).toNatClampNeg = 0 := by decide
  refine ⟨wc, rg, lim, ⟨w3, w3, r3, r3, l3, l3, rfl, rfl⟩, ⟨w1, w2, ⟨r1, r2⟩, l1, l2, ?_, ?_, ?_⟩, ?_, ⟨fun i _ => ⟨rfl, rfl, rfl⟩, ?_⟩, ?_, fun z => absurd z (by decide), fun z => absurd z (by decide)⟩
  · intro w hw
    rw [hai w hw]
    unfold ai_v
    split
    · rw [dN_n (by omega)]; assumption
    · rw [dn0]; omega
  · intro p hp
    refine ⟨?_, fun i hi => ?_⟩
    · show (0 : Int32).toNatClampNeg ≤ 10; rw [c0]; omega
    · have hi' : i < (0 : Int32).toNatClampNeg := hi
      rw [c0] at hi'; omega
  · intro p hp; exact ⟨0, by omega, rfl⟩
  · intro w hw; rw [hai w hw, hvi w (by omega)]
  · intro p hp
    show (0 : Int32) = nI (0 : Int32).toNatClampNeg
    rw [c0]; rfl
  · intro w hw
    show 0 ≤ (0 : Int32).toInt ∧ (0 : Int32).toInt ≤ 100
    decide
end
end

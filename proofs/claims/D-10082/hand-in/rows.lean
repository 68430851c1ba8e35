section
/-! the picture: what reading the kinds K gives, place by place -/
/-- the innermost joined bracket of a stack -/
def sx_in : List Nat → Int32
  | [] => -2
  | x :: _ => nI x
/-- the state behind place g, from the one before it: mode, escape, stack of joined brackets -/
def sx_nx (c : Int32) (g : Nat) (s : Int32 × Int32 × List Nat) : Int32 × Int32 × List Nat :=
  if s.2.1 = 0 then
    if s.1 = 0 then
      if c = 2 then (0, 0, g :: s.2.2)
      else if c = 3 then (0, 0, s.2.2.tail)
      else if c = 4 then (1, 0, s.2.2)
      else if c = 6 then (2, 0, s.2.2)
      else if c = 5 then (0, 1, s.2.2)
      else (0, 0, s.2.2)
    else if s.1 = 1 then
      if c = 4 then (0, 0, s.2.2) else if c = 5 then (1, 1, s.2.2) else (1, 0, s.2.2)
    else if c = 7 then (0, 0, s.2.2) else (s.1, 0, s.2.2)
  else (s.1, 0, s.2.2)
def sx_S (K : Nat → Int32) : Nat → Int32 × Int32 × List Nat
  | 0 => (0, 0, [])
  | g + 1 => sx_nx (K g) g (sx_S K g)
/-- the role of a place with kind c in state s -/
def sx_rl (c : Int32) (s : Int32 × Int32 × List Nat) : Int32 :=
  if s.1 = 0 then
    if s.2.1 = 0 then
      if c = 0 then 6 else if c = 5 then 6 else if c = 2 then 1
      else if c = 3 then (match s.2.2 with | [] => 3 | _ :: _ => 2)
      else if c = 4 then 4 else 0
    else 6
  else if s.1 = 1 then (if s.2.1 = 0 then (if c = 4 then 5 else 0) else 0) else 0
def sx_R (K : Nat → Int32) (j : Nat) : Int32 := sx_rl (K j) (sx_S K j)
theorem sx_S1 (K : Nat → Int32) (g : Nat) : sx_S K (g + 1) = sx_nx (K g) g (sx_S K g) := rfl
/-- a step joins a bracket, leaves one, or keeps the stack -/
theorem sx_tri (c : Int32) (g : Nat) (s : Int32 × Int32 × List Nat) :
    (sx_rl c s = 1 ∧ (sx_nx c g s).2.2 = g :: s.2.2) ∨ (∃ x r, sx_rl c s = 2 ∧ s.2.2 = x :: r ∧ (sx_nx c g s).2.2 = r) ∨ (sx_rl c s ≠ 1 ∧ sx_rl c s ≠ 2 ∧ (sx_nx c g s).2.2 = s.2.2) := by
  obtain ⟨m, e, st⟩ := s
  unfold sx_rl sx_nx
  dsimp only
  by_cases he : e = 0
  · by_cases hm : m = 0
    · subst he hm
      by_cases h2 : c = 2
      · subst h2; left; exact ⟨rfl, rfl⟩
      · by_cases h3 : c = 3
        · subst h3
          cases st with
          | nil => right; right; exact ⟨by decide, by decide, rfl⟩
          | cons x r => right; left; exact ⟨x, r, rfl, rfl, rfl⟩
        · right; right
          by_cases h0 : c = 0
          · subst h0; simp
          · by_cases h4 : c = 4
            · subst h4; simp
            · by_cases h5 : c = 5
              · subst h5; simp
              · by_cases h6 : c = 6
                · subst h6; simp
                · simp [h0, h2, h3, h4, h5, h6]
    · right; right
      subst he
      by_cases hm1 : m = 1
      · subst hm1
        by_cases h4 : c = 4
        · subst h4; simp
        · by_cases h5 : c = 5
          · subst h5; simp
          · simp [h4, h5]
      · by_cases h7 : c = 7
        · simp [hm, hm1, h7]
        · simp [hm, hm1, h7]
  · right; right
    by_cases hm : m = 0
    · simp [he, hm]
    · by_cases hm1 : m = 1
      · simp [he, hm1]
      · simp [he, hm, hm1]
theorem sx_triS (K : Nat → Int32) (g : Nat) :
    (sx_R K g = 1 ∧ (sx_S K (g + 1)).2.2 = g :: (sx_S K g).2.2) ∨ (∃ x r, sx_R K g = 2 ∧ (sx_S K g).2.2 = x :: r ∧ (sx_S K (g + 1)).2.2 = r) ∨ (sx_R K g ≠ 1 ∧ sx_R K g ≠ 2 ∧ (sx_S K (g + 1)).2.2 = (sx_S K g).2.2) :=
  sx_tri (K g) g (sx_S K g)
/-- what is read below g hangs on the kinds below g alone -/
theorem sx_cut {K K' : Nat → Int32} : ∀ g : Nat, (∀ j, j < g → K j = K' j) → sx_S K g = sx_S K' g := by
  intro g
  induction g with
  | zero => intro _; rfl
  | succ g ih =>
    intro h
    rw [sx_S1, sx_S1, ih (fun j hj => h j (by omega)), h g (by omega)]
theorem sx_cutR {K K' : Nat → Int32} {g j : Nat} (h : ∀ j, j < g → K j = K' j) (hj : j < g) : sx_R K j = sx_R K' j := by
  unfold sx_R
  rw [sx_cut j (fun i hi => h i (by omega)), h j hj]
theorem sx_esc (K : Nat → Int32) (g : Nat) : (sx_S K g).2.1 = 0 ∨ (sx_S K g).2.1 = 1 := by
  cases g with
  | zero => left; rfl
  | succ g =>
    rw [sx_S1]
    unfold sx_nx
    repeat' split
    all_goals first | (left; rfl) | (right; rfl)
theorem sx_mem (K : Nat → Int32) : ∀ g y : Nat, y ∈ (sx_S K g).2.2 → y < g := by
  intro g
  induction g with
  | zero => intro y h; exact absurd h (List.not_mem_nil)
  | succ g ih =>
    intro y h
    rcases sx_triS K g with ⟨_, e⟩ | ⟨x, r, _, e1, e⟩ | ⟨_, _, e⟩
    · rw [e] at h
      rcases List.mem_cons.mp h with z | z
      · omega
      · have := ih y z; omega
    · rw [e] at h
      have := ih y (by rw [e1]; exact List.mem_cons_of_mem x h)
      omega
    · rw [e] at h
      have := ih y h
      omega
/-- the stack's head: a bracket that joins, and below it the stack as it was there -/
theorem sx_ok (K : Nat → Int32) : ∀ g x : Nat, ∀ r : List Nat, (sx_S K g).2.2 = x :: r → x < g ∧ sx_R K x = 1 ∧ (sx_S K x).2.2 = r := by
  intro g
  induction g using Nat.strongRecOn with
  | ind g ih =>
    intro x r h
    cases g with
    | zero => exact absurd h (by intro z; exact absurd z (List.cons_ne_nil x r).symm)
    | succ g =>
      rcases sx_triS K g with ⟨h1, e⟩ | ⟨y, r', _, e1, e⟩ | ⟨_, _, e⟩
      · rw [e] at h
        injection h with h2 h3
        subst h2
        exact ⟨by omega, h1, h3⟩
      · rw [e] at h
        obtain ⟨h2, _, h4⟩ := ih g (by omega) y r' e1
        obtain ⟨h5, h6, h7⟩ := ih y (by omega) x r (by rw [h4]; exact h)
        exact ⟨by omega, h6, h7⟩
      · rw [e] at h
        obtain ⟨h5, h6, h7⟩ := ih g (by omega) x r h
        exact ⟨by omega, h6, h7⟩
/-- a bracket that was left never comes back -/
theorem sx_gone (K : Nat → Int32) {q x : Nat} {r : List Nat} (h2 : sx_R K q = 2) (h : (sx_S K q).2.2 = x :: r) : ∀ d : Nat, x ∉ (sx_S K (q + 1 + d)).2.2 := by
  obtain ⟨hx, _, hr⟩ := sx_ok K q x r h
  intro d
  induction d with
  | zero =>
    rcases sx_triS K q with ⟨h1, _⟩ | ⟨y, r', _, e1, e⟩ | ⟨_, n2, _⟩
    · rw [h1] at h2
      exact absurd h2 (by decide)
    · rw [h] at e1
      injection e1 with _ e3
      intro z
      have z' : x ∈ (sx_S K (q + 1)).2.2 := z
      rw [e, ← e3, ← hr] at z'
      have := sx_mem K x x z'
      omega
    · exact absurd h2 n2
  | succ d ih =>
    have E : q + 1 + (d + 1) = (q + 1 + d) + 1 := by omega
    rw [E]
    rcases sx_triS K (q + 1 + d) with ⟨_, e⟩ | ⟨y, r', _, e1, e⟩ | ⟨_, _, e⟩
    · rw [e]
      intro z
      rcases List.mem_cons.mp z with w | w
      · omega
      · exact ih w
    · rw [e]
      intro z
      exact ih (by rw [e1]; exact List.mem_cons_of_mem y z)
    · rw [e]
      exact ih
theorem sx_len (K : Nat → Int32) : ∀ g : Nat, (sx_S K g).2.2.length ≤ g := by
  intro g
  induction g with
  | zero => exact Nat.le_refl 0
  | succ g ih =>
    rcases sx_triS K g with ⟨_, e⟩ | ⟨x, r, _, e1, e⟩ | ⟨_, _, e⟩
    · rw [e, List.length_cons]; omega
    · rw [e]
      rw [e1, List.length_cons] at ih
      omega
    · rw [e]; omega
/-- depths of neighbouring gaps -/
theorem sx_dst (K : Nat → Int32) (g : Nat) : (sx_S K (g + 1)).2.2.length = (sx_S K g).2.2.length + 1 ∨ (sx_S K (g + 1)).2.2.length + 1 = (sx_S K g).2.2.length ∨ (sx_S K (g + 1)).2.2.length = (sx_S K g).2.2.length := by
  rcases sx_triS K g with ⟨_, e⟩ | ⟨x, r, _, e1, e⟩ | ⟨_, _, e⟩
  · left; rw [e, List.length_cons]
  · right; left; rw [e, e1, List.length_cons]
  · right; right; rw [e]
theorem sx_neg {x : Nat} (h : x < 2 ^ 31) : ¬ nI x = -2 := by
  intro z
  exact absurd (show nI x < 0 by rw [z]; decide) (nI_pos h)
theorem sx_a15 : ∀ n, n < 65 → nI n &&& 15 = nI (n % 16) := by decide +kernel
theorem sx_s4 : ∀ n, n < 65 → nI n >>> ((4 : Int32) &&& 31) = nI (n / 16) := by decide +kernel
theorem sx_m16 : ∀ n, n < 65 → nI n &&& (-16) = nI (16 * (n / 16)) := by decide +kernel
end
section
/-! the invariant: what the arrays hold -/
/-- role, partners, around below i; partners of joining brackets lie below B -/
def sx_A (K : Nat → Int32) (B i : Nat) (a2 a3 a4 : Nat → Int32) : Prop :=
  (∀ j, j < i → a2 j = sx_R K j) ∧
  (∀ j, j < i → sx_R K j = 1 → a4 j = sx_in (sx_S K j).2.2) ∧
  (∀ q x r, q < i → sx_R K q = 2 → (sx_S K q).2.2 = x :: r → a3 q = nI x ∧ a3 x = nI q) ∧
  (∀ j, j < i → sx_R K j = 1 → a3 j = -2 ∨ ∃ q r, j < q ∧ q < B ∧ a3 j = nI q ∧ sx_R K q = 2 ∧ (sx_S K q).2.2 = j :: r)
/-- the kept states below b -/
def sx_P (K : Nat → Int32) (b : Nat) (a5 a6 a7 : Nat → Int32) : Prop :=
  ∀ k, 16 * k < b → a5 k = (sx_S K (16 * k)).1 ∧ a6 k = (sx_S K (16 * k)).2.1 ∧ a7 k = sx_in (sx_S K (16 * k)).2.2
def sx_I (n kn : Nat) (a1 a2 a3 a4 a5 a6 a7 : Nat → Int32) : Prop :=
  n ≤ 64 ∧ kn ≤ n ∧ sx_A a1 kn kn a2 a3 a4 ∧ sx_P a1 (kn + 1) a5 a6 a7
/-- the stack's brackets know the one around them -/
def sx_ch (a4 : Nat → Int32) : List Nat → Prop
  | [] => True
  | x :: r => x < 64 ∧ a4 x = sx_in r ∧ sx_ch a4 r
theorem sx_A_ch {K : Nat → Int32} {B i : Nat} {a2 a3 a4 : Nat → Int32} (h : sx_A K B i a2 a3 a4) (hi : i ≤ 64) : ∀ g : Nat, g ≤ i → sx_ch a4 (sx_S K g).2.2 := by
  intro g
  induction g using Nat.strongRecOn with
  | ind g ih =>
    intro hg
    cases e : (sx_S K g).2.2 with
    | nil => trivial
    | cons x r =>
      obtain ⟨h1, h2, h3⟩ := sx_ok K g x r e
      have h4 := h.2.1 x (by omega) h2
      have h5 := ih x h1 (by omega)
      rw [h3] at h4 h5
      exact ⟨by omega, h4, h5⟩
theorem sx_A_mono {K : Nat → Int32} {B B' i i' : Nat} {a2 a3 a4 : Nat → Int32} (h : sx_A K B i a2 a3 a4) (hB : B ≤ B') (hi : i' ≤ i) : sx_A K B' i' a2 a3 a4 := by
  obtain ⟨h1, h2, h3, h4⟩ := h
  refine ⟨fun j hj => h1 j (by omega), fun j hj => h2 j (by omega), fun q x r hq => h3 q x r (by omega), fun j hj hr => ?_⟩
  rcases h4 j (by omega) hr with z | ⟨q, r, z1, z2, z3⟩
  · exact Or.inl z
  · exact Or.inr ⟨q, r, z1, by omega, z3⟩
/-- one place more is noted -/
theorem sx_A_next {K : Nat → Int32} {B i : Nat} {a2 a3 a4 a2' a3' a4' : Nat → Int32} (h : sx_A K B i a2 a3 a4) (hB : i < B)
    (g2 : ∀ j, j < i → a2' j = a2 j) (g2' : a2' i = sx_R K i)
    (g4 : ∀ j, j < i → a4' j = a4 j) (g4' : sx_R K i = 1 → a4' i = sx_in (sx_S K i).2.2)
    (g3 : ∀ j, j < i → (∀ x r, sx_R K i = 2 → (sx_S K i).2.2 = x :: r → j ≠ x) → a3' j = a3 j)
    (g3' : sx_R K i = 1 → a3' i = -2)
    (g3'' : ∀ x r, sx_R K i = 2 → (sx_S K i).2.2 = x :: r → a3' i = nI x ∧ a3' x = nI i) : sx_A K B (i + 1) a2' a3' a4' := by
  obtain ⟨h1, h2, h3, h4⟩ := h
  refine ⟨?_, ?_, ?_, ?_⟩
  · intro j hj
    by_cases e : j = i
    · rw [e, g2']
    · rw [g2 j (by omega), h1 j (by omega)]
  · intro j hj hr
    by_cases e : j = i
    · rw [e] at hr ⊢
      exact g4' hr
    · rw [g4 j (by omega)]
      exact h2 j (by omega) hr
  · intro q x r hq hr hs
    by_cases e : q = i
    · rw [e] at hr hs ⊢
      exact g3'' x r hr hs
    · obtain ⟨z1, z2⟩ := h3 q x r (by omega) hr hs
      obtain ⟨w1, _, _⟩ := sx_ok K q x r hs
      refine ⟨?_, ?_⟩
      · rw [g3 q (by omega) ?_]
        · exact z1
        · intro x0 r0 _ k1 k2
          obtain ⟨_, w2, _⟩ := sx_ok K i x0 r0 k1
          rw [← k2, hr] at w2
          exact absurd w2 (by decide)
      · rw [g3 x (by omega) ?_]
        · exact z2
        · intro x0 r0 _ k1 k2
          have w := sx_gone K hr hs (i - (q + 1))
          rw [show q + 1 + (i - (q + 1)) = i by omega, k1, k2] at w
          exact w (List.mem_cons_self)
  · intro j hj hr
    by_cases e : j = i
    · rw [e] at hr ⊢
      exact Or.inl (g3' hr)
    · by_cases c : ∃ r, sx_R K i = 2 ∧ (sx_S K i).2.2 = j :: r
      · obtain ⟨r, c1, c2⟩ := c
        exact Or.inr ⟨i, r, by omega, hB, (g3'' j r c1 c2).2, c1, c2⟩
      · rw [g3 j (by omega) (fun x r k1 k2 k3 => c ⟨r, k1, by rw [k3]; exact k2⟩)]
        exact h4 j (by omega) hr
/-- .. it has no bracket's role -/
theorem sx_A_o {K : Nat → Int32} {B i : Nat} {a2 a3 a4 a2' : Nat → Int32} (h : sx_A K B i a2 a3 a4) (hB : i < B)
    (g2 : ∀ j, j < i → a2' j = a2 j) (g2' : a2' i = sx_R K i) (n1 : sx_R K i ≠ 1) (n2 : sx_R K i ≠ 2) : sx_A K B (i + 1) a2' (upd a3 i (-2)) a4 :=
  sx_A_next h hB g2 g2' (fun _ _ => rfl) (fun z => absurd z n1) (fun j hj _ => pk_un (by omega)) (fun z => absurd z n1) (fun _ _ z _ => absurd z n2)
/-- .. it joins -/
theorem sx_A_j {K : Nat → Int32} {B i : Nat} {a2 a3 a4 a2' : Nat → Int32} (h : sx_A K B i a2 a3 a4) (hB : i < B)
    (g2 : ∀ j, j < i → a2' j = a2 j) (g2' : a2' i = sx_R K i) (n1 : sx_R K i = 1) : sx_A K B (i + 1) a2' (upd a3 i (-2)) (upd a4 i (sx_in (sx_S K i).2.2)) :=
  sx_A_next h hB g2 g2' (fun j hj => pk_un (by omega)) (fun _ => pk_us) (fun j hj _ => pk_un (by omega)) (fun _ => pk_us) (fun _ _ z _ => absurd (n1.symm.trans z) (by decide))
/-- .. it leaves -/
theorem sx_A_l {K : Nat → Int32} {B i x : Nat} {r : List Nat} {a2 a3 a4 a2' : Nat → Int32} (h : sx_A K B i a2 a3 a4) (hB : i < B)
    (g2 : ∀ j, j < i → a2' j = a2 j) (g2' : a2' i = sx_R K i) (n2 : sx_R K i = 2) (hs : (sx_S K i).2.2 = x :: r) : sx_A K B (i + 1) a2' (upd (upd (upd a3 i (-2)) i (nI x)) x (nI i)) a4 := by
  obtain ⟨hx, _, _⟩ := sx_ok K i x r hs
  refine sx_A_next h hB g2 g2' (fun _ _ => rfl) (fun z => absurd (n2.symm.trans z) (by decide)) (fun j hj hn => ?_) (fun z => absurd (n2.symm.trans z) (by decide)) (fun x' r' _ hs' => ?_)
  · rw [pk_un (hn x r n2 hs), pk_un (by omega), pk_un (by omega)]
  · rw [hs] at hs'
    injection hs' with e1 e2
    subst e1
    exact ⟨by rw [pk_un (by omega), pk_us], pk_us⟩
theorem sx_u0 {a : Nat → Int32} {i : Nat} {v : Int32} : ∀ j, j < i → upd a i v j = a j := fun j hj => pk_un (by omega)
theorem sx_u2 {a : Nat → Int32} {i : Nat} {v w : Int32} : ∀ j, j < i → upd (upd a i v) i w j = a j := fun j hj => by rw [pk_un (by omega), pk_un (by omega)]
/-- one kept state more -/
theorem sx_P_keep {K : Nat → Int32} {q : Nat} {a5 a6 a7 : Nat → Int32} (h : sx_P K (16 * q) a5 a6 a7) : sx_P K (16 * q + 1) (upd a5 q (sx_S K (16 * q)).1) (upd a6 q (sx_S K (16 * q)).2.1) (upd a7 q (sx_in (sx_S K (16 * q)).2.2)) := by
  intro k hk
  by_cases e : k = q
  · rw [e, pk_us, pk_us, pk_us]
    exact ⟨rfl, rfl, rfl⟩
  · rw [pk_un e, pk_un e, pk_un e]
    exact h k (by omega)
theorem sx_P_skip {K : Nat → Int32} {i : Nat} {a5 a6 a7 : Nat → Int32} (h : sx_P K i a5 a6 a7) (hi : i % 16 ≠ 0) : sx_P K (i + 1) a5 a6 a7 :=
  fun k hk => h k (by omega)
end
section
/-! the walks: one lemma a method -/
theorem sx_load {post : St1 → Prop} {l k m e f : Int32} {a1 a2 a3 a4 a5 a6 a7 : Nat → Int32} {q : Nat} (hq : q < 5) (he : a6 q = 0 ∨ a6 q = 1)
    (H : post (l, k, a5 q, a6 q, a7 q, a1, a2, a3, a4, a5, a6, a7)) : wpX_load post (l, k, m, e, f, a1, a2, a3, a4, a5, a6, a7) (nI q) := by
  have c1 : (nI q).toNatClampNeg = q := nI_clamp (by omega)
  have v : vp_in (nI q) 5 := vp_in_nI hq (by omega)
  unfold wpX_load
  rw [c1]
  refine ⟨v, nm_e ⟨v, nm_e ⟨?_, ?_, v, nm_e H⟩⟩⟩
  · rcases he with z | z <;> rw [z] <;> rfl
  · rcases he with z | z <;> rw [z] <;> rfl
theorem sx_keep {post : St1 → Prop} {l k m e f : Int32} {a1 a2 a3 a4 a5 a6 a7 : Nat → Int32} {q : Nat} (hq : q < 5) (he : e = 0 ∨ e = 1)
    (H : post (l, k, m, e, f, a1, a2, a3, a4, upd a5 q m, upd a6 q e, upd a7 q f)) : wpX_keep post (l, k, m, e, f, a1, a2, a3, a4, a5, a6, a7) (nI q) := by
  have c1 : (nI q).toNatClampNeg = q := nI_clamp (by omega)
  have v : vp_in (nI q) 5 := vp_in_nI hq (by omega)
  have n1 : vp_nar .boolean e = e := by rcases he with z | z <;> rw [z] <;> rfl
  unfold wpX_keep
  dsimp only
  rw [c1, n1]
  exact ⟨v, nm_e ⟨v, nm_e ⟨v, nm_e H⟩⟩⟩
theorem sx_note {post : St1 → Prop} {l k m e : Int32} {st : List Nat} {a1 a2 a3 a4 a5 a6 a7 : Nat → Int32} {i B : Nat} (hi : i < 64) (hB : i < B) (hA : sx_A a1 B i a2 a3 a4) (hS : sx_S a1 i = (m, e, st))
    (H : ∀ a2' a3' a4', sx_A a1 B (i + 1) a2' a3' a4' → post (l, k, m, e, sx_in st, a1, a2', a3', a4', a5, a6, a7)) : wpX_note post (l, k, m, e, sx_in st, a1, a2, a3, a4, a5, a6, a7) (nI i) := by
  have c1 : (nI i).toNatClampNeg = i := nI_clamp (by omega)
  have v : vp_in (nI i) 64 := vp_in_nI hi (by omega)
  have hR : sx_R a1 i = sx_rl (a1 i) (m, e, st) := by unfold sx_R; rw [hS]
  have hst : (sx_S a1 i).2.2 = st := by rw [hS]
  have O : ∀ (a2' : Nat → Int32) (r : Int32), (∀ j, j < i → a2' j = a2 j) → a2' i = r → sx_rl (a1 i) (m, e, st) = r → r ≠ 1 → r ≠ 2 → post (l, k, m, e, sx_in st, a1, a2', upd a3 i (-2), a4, a5, a6, a7) :=
    fun a2' r g2 g3 g4 n1 n2 => H _ _ _ (sx_A_o hA hB g2 (by rw [g3, hR, g4]) (by rw [hR, g4]; exact n1) (by rw [hR, g4]; exact n2))
  unfold wpX_note
  rw [c1]
  refine ⟨v, nm_e ⟨v, nm_e ⟨v, nm_e ?_⟩⟩⟩
  refine br_c (fun hm => br_c (fun he => br_c (fun h0 => ⟨v, nm_e ?_⟩) (fun h0 => br_c (fun h5 => ⟨v, nm_e ?_⟩) (fun h5 => br_c (fun h2 => ⟨v, nm_e ⟨v, nm_e ?_⟩⟩) (fun h2 => br_c (fun h3 => ?_) (fun h3 => br_c (fun h4 => ⟨v, nm_e ?_⟩) (fun h4 => ?_)))))) (fun he => ⟨v, nm_e ?_⟩))
    (fun hm => br_c (fun hm1 => br_c (fun he => br_c (fun h4 => ⟨v, nm_e ?_⟩) (fun h4 => ?_)) (fun he => ?_)) (fun hm1 => ?_))
  · exact O _ 6 sx_u2 pk_us (by unfold sx_rl; dsimp only; rw [if_pos hm, if_pos he, if_pos h0]) (by decide) (by decide)
  · exact O _ 6 sx_u2 pk_us (by unfold sx_rl; dsimp only; rw [if_pos hm, if_pos he, if_neg h0, if_pos h5]) (by decide) (by decide)
  · have r1 : sx_R a1 i = 1 := by rw [hR]; unfold sx_rl; dsimp only; rw [if_pos hm, if_pos he, if_neg h0, if_neg h5, if_pos h2]
    have J := sx_A_j (a2' := upd (upd a2 i 0) i 1) hA hB sx_u2 (by rw [pk_us, r1]) r1
    rw [hst] at J
    exact H _ _ _ J
  · cases st with
    | nil =>
      refine br_t rfl ?_
      unfold wX_note_105
      rw [c1]
      exact ⟨v, nm_e (br_t rfl (O _ 3 sx_u2 pk_us (by unfold sx_rl; dsimp only; rw [if_pos hm, if_pos he, if_neg h0, if_neg h5, if_neg h2, if_pos h3]) (by decide) (by decide)))⟩
    | cons x r =>
      obtain ⟨hx, _, _⟩ := sx_ok a1 i x r hst
      have c2 : (sx_in (x :: r)).toNatClampNeg = x := nI_clamp (show x < 2 ^ 31 by omega)
      have nx : ¬ sx_in (x :: r) = -2 := sx_neg (show x < 2 ^ 31 by omega)
      have v2 : vp_in (sx_in (x :: r)) 64 := vp_in_nI (show x < 64 by omega) (by omega)
      refine br_f nx ?_
      unfold wX_note_105
      rw [c1, c2]
      have r2 : sx_R a1 i = 2 := by rw [hR]; unfold sx_rl; dsimp only; rw [if_pos hm, if_pos he, if_neg h0, if_neg h5, if_neg h2, if_pos h3]
      exact ⟨v, nm_e (br_f nx ⟨v, nm_e ⟨v2, nm_e (H _ _ _ (sx_A_l (a2' := upd (upd a2 i 0) i 2) hA hB sx_u2 (by rw [pk_us, r2]) r2 hst))⟩⟩)⟩
  · exact O _ 4 sx_u2 pk_us (by unfold sx_rl; dsimp only; rw [if_pos hm, if_pos he, if_neg h0, if_neg h5, if_neg h2, if_neg h3, if_pos h4]) (by decide) (by decide)
  · exact O _ 0 sx_u0 pk_us (by unfold sx_rl; dsimp only; rw [if_pos hm, if_pos he, if_neg h0, if_neg h5, if_neg h2, if_neg h3, if_neg h4]) (by decide) (by decide)
  · exact O _ 6 sx_u2 pk_us (by unfold sx_rl; dsimp only; rw [if_pos hm, if_neg he]) (by decide) (by decide)
  · exact O _ 5 sx_u2 pk_us (by unfold sx_rl; dsimp only; rw [if_neg hm, if_pos hm1, if_pos he, if_pos h4]) (by decide) (by decide)
  · exact O _ 0 sx_u0 pk_us (by unfold sx_rl; dsimp only; rw [if_neg hm, if_pos hm1, if_pos he, if_neg h4]) (by decide) (by decide)
  · exact O _ 0 sx_u0 pk_us (by unfold sx_rl; dsimp only; rw [if_neg hm, if_pos hm1, if_neg he]) (by decide) (by decide)
  · exact O _ 0 sx_u0 pk_us (by unfold sx_rl; dsimp only; rw [if_neg hm, if_neg hm1]) (by decide) (by decide)
theorem sx_step {post : St1 → Prop} {l k m e : Int32} {st : List Nat} {a1 a2 a3 a4 a5 a6 a7 : Nat → Int32} {i : Nat} (hi : i < 64) (hc : sx_ch a4 st)
    (H : ∀ m' e' st', sx_nx (a1 i) i (m, e, st) = (m', e', st') → post (l, k, m', e', sx_in st', a1, a2, a3, a4, a5, a6, a7)) : wpX_step post (l, k, m, e, sx_in st, a1, a2, a3, a4, a5, a6, a7) (nI i) := by
  have c1 : (nI i).toNatClampNeg = i := nI_clamp (by omega)
  have v : vp_in (nI i) 64 := vp_in_nI hi (by omega)
  unfold wpX_step
  rw [c1]
  refine ⟨v, nm_e ?_⟩
  refine br_c (fun he => br_c (fun hm => br_c (fun h2 => ?_) (fun h2 => br_c (fun h3 => ?_) (fun h3 => br_c (fun h4 => ?_) (fun h4 => br_c (fun h6 => ?_) (fun h6 => ?_)))))
    (fun hm => br_c (fun hm1 => br_c (fun h4 => ?_) (fun h4 => ?_)) (fun hm1 => br_c (fun h7 => ?_) (fun h7 => ?_)))) (fun he => ?_)
  · exact br_f (by rw [h2]; decide) (H m 0 (i :: st) (by unfold sx_nx; dsimp only; rw [if_pos he, if_pos hm, if_pos h2, hm]))
  · cases st with
    | nil => exact br_t rfl (br_f (by rw [h3]; decide) (H m 0 [] (by unfold sx_nx; dsimp only; rw [if_pos he, if_pos hm, if_neg h2, if_pos h3, hm]; rfl)))
    | cons x r =>
      obtain ⟨x1, x2, _⟩ := hc
      have E : a4 (sx_in (x :: r)).toNatClampNeg = sx_in r := by
        show a4 (nI x).toNatClampNeg = sx_in r
        rw [nI_clamp (by omega)]
        exact x2
      rw [E]
      exact br_f (sx_neg (show x < 2 ^ 31 by omega)) ⟨vp_in_nI x1 (by omega), br_f (by rw [h3]; decide) (H m 0 r (by unfold sx_nx; dsimp only; rw [if_pos he, if_pos hm, if_neg h2, if_pos h3, hm]; rfl))⟩
  · exact br_f (by rw [h4]; decide) (H 1 0 st (by unfold sx_nx; dsimp only; rw [if_pos he, if_pos hm, if_neg h2, if_neg h3, if_pos h4]))
  · exact br_f (by rw [h6]; decide) (H 2 0 st (by unfold sx_nx; dsimp only; rw [if_pos he, if_pos hm, if_neg h2, if_neg h3, if_neg h4, if_pos h6]))
  · exact br_c (fun h5 => H m 1 st (by unfold sx_nx; dsimp only; rw [if_pos he, if_pos hm, if_neg h2, if_neg h3, if_neg h4, if_neg h6, if_pos h5, hm]))
      (fun h5 => H m 0 st (by unfold sx_nx; dsimp only; rw [if_pos he, if_pos hm, if_neg h2, if_neg h3, if_neg h4, if_neg h6, if_neg h5, hm]))
  · exact br_f (by rw [h4]; decide) (H 0 0 st (by unfold sx_nx; dsimp only; rw [if_pos he, if_neg hm, if_pos hm1, if_pos h4]))
  · exact br_c (fun h5 => H 1 1 st (by unfold sx_nx; dsimp only; rw [if_pos he, if_neg hm, if_pos hm1, if_neg h4, if_pos h5]))
      (fun h5 => H 1 0 st (by unfold sx_nx; dsimp only; rw [if_pos he, if_neg hm, if_pos hm1, if_neg h4, if_neg h5]))
  · exact H 0 e st (by unfold sx_nx; dsimp only; rw [if_pos he, if_neg hm, if_neg hm1, if_pos h7, he])
  · exact H m e st (by unfold sx_nx; dsimp only; rw [if_pos he, if_neg hm, if_neg hm1, if_neg h7, he])
  · exact H m 0 st (by unfold sx_nx; dsimp only; rw [if_neg he])
end
section
/-! reading: readTo, stateAt, depth -/
theorem sx_rd46 {post : St1 → Prop} {J : Int32 → Int32 → Int32 → Int32 → Int32 → Int32 → (Nat → Int32) → (Nat → Int32) → (Nat → Int32) → (Nat → Int32) → (Nat → Int32) → (Nat → Int32) → (Nat → Int32) → Prop}
    {x1 l k m e : Int32} {st : List Nat} {a1 a2 a3 a4 a5 a6 a7 : Nat → Int32} {i B : Nat} (hi : i < 64) (hB : i < B) (hA : sx_A a1 B i a2 a3 a4) (hS : sx_S a1 i = (m, e, st))
    (H : ∀ a2' a3' a4', sx_A a1 B (i + 1) a2' a3' a4' → J (nI (i + 1)) l k (sx_S a1 (i + 1)).1 (sx_S a1 (i + 1)).2.1 (sx_in (sx_S a1 (i + 1)).2.2) a1 a2' a3' a4' a5 a6 a7) :
    wX_readTo_46 post J x1 (nI i) l k m e (sx_in st) a1 a2 a3 a4 a5 a6 a7 := by
  refine sx_note hi hB hA hS (fun a2' a3' a4' hA' => ?_)
  have hc := sx_A_ch hA' (by omega) i (by omega)
  rw [hS] at hc
  refine sx_step hi hc (fun m' e' st' E => nm_r (nI_1 i) ?_)
  have E2 : sx_S a1 (i + 1) = (m', e', st') := by rw [sx_S1, hS, E]
  have h := H a2' a3' a4' hA'
  rw [E2] at h
  exact h
theorem sx_rd {post : St1 → Prop} {n kn g : Nat} {a1 : Nat → Int32} (hn : n ≤ 64) (hg : g ≤ n)
    (H : ∀ m e f a2 a3 a4 a5 a6 a7, sx_A a1 g g a2 a3 a4 → sx_P a1 (g + 1) a5 a6 a7 → post (nI n, nI g, m, e, f, a1, a2, a3, a4, a5, a6, a7)) :
    ∀ (d i : Nat) (a2 a3 a4 a5 a6 a7 : Nat → Int32), d + i = g → sx_A a1 g i a2 a3 a4 → sx_P a1 i a5 a6 a7 →
      wX_readTo_27 post (nI g) (d + 1) (nI i) (nI n) (nI kn) (sx_S a1 i).1 (sx_S a1 i).2.1 (sx_in (sx_S a1 i).2.2) a1 a2 a3 a4 a5 a6 a7 := by
  have N0 : ∀ i, i < 65 → i % 16 ≠ 0 → ¬ nI i &&& 15 = 0 := fun i hi c => by
    rw [sx_a15 i hi]
    exact nI_ne0 (by omega) (by omega)
  have Y0 : ∀ i, i < 65 → i % 16 = 0 → nI i &&& 15 = 0 := fun i hi c => by
    rw [sx_a15 i hi, c]
    rfl
  have KP : ∀ (i : Nat) (a5 a6 a7 : Nat → Int32), i % 16 = 0 → sx_P a1 i a5 a6 a7 → sx_P a1 (i + 1) (upd a5 (i / 16) (sx_S a1 i).1) (upd a6 (i / 16) (sx_S a1 i).2.1) (upd a7 (i / 16) (sx_in (sx_S a1 i).2.2)) := by
    intro i a5 a6 a7 c hP
    have e : 16 * (i / 16) = i := by omega
    have h := sx_P_keep (K := a1) (q := i / 16) (a5 := a5) (a6 := a6) (a7 := a7) (by rw [e]; exact hP)
    rw [e] at h
    exact h
  intro d
  induction d with
  | zero =>
    intro i a2 a3 a4 a5 a6 a7 hi hA hP
    have hi' : i = g := by omega
    subst hi'
    refine br_t (nI_le (Nat.le_refl _) (by omega)) ?_
    by_cases c : i % 16 = 0
    · refine br_t (Y0 i (by omega) c) ?_
      rw [sx_s4 i (by omega)]
      refine sx_keep (by omega) (sx_esc a1 i) ?_
      exact H _ _ _ _ _ _ _ _ _ hA (KP i a5 a6 a7 c hP)
    · exact br_f (N0 i (by omega) c) (H _ _ _ _ _ _ _ _ _ hA (sx_P_skip hP c))
  | succ d ih =>
    intro i a2 a3 a4 a5 a6 a7 hi hA hP
    refine br_f (nI_ge (by omega) (by omega)) ?_
    by_cases c : i % 16 = 0
    · refine br_t (Y0 i (by omega) c) ?_
      rw [sx_s4 i (by omega)]
      refine sx_keep (by omega) (sx_esc a1 i) ?_
      exact sx_rd46 (by omega) (by omega) hA rfl (fun a2' a3' a4' hA' => ih (i + 1) _ _ _ _ _ _ (by omega) hA' (KP i a5 a6 a7 c hP))
    · exact br_f (N0 i (by omega) c) (sx_rd46 (by omega) (by omega) hA rfl (fun a2' a3' a4' hA' => ih (i + 1) _ _ _ _ _ _ (by omega) hA' (sx_P_skip hP c)))
theorem sx_readTo {post : St1 → Prop} {n kn g : Nat} {m e f : Int32} {a1 a2 a3 a4 a5 a6 a7 : Nat → Int32} (hI : sx_I n kn a1 a2 a3 a4 a5 a6 a7) (hg : g ≤ n)
    (H : ∀ kn' m e f b2 b3 b4 b5 b6 b7, kn ≤ kn' → g ≤ kn' → sx_I n kn' a1 b2 b3 b4 b5 b6 b7 → post (nI n, nI kn', m, e, f, a1, b2, b3, b4, b5, b6, b7)) :
    wpX_readTo post (nI n, nI kn, m, e, f, a1, a2, a3, a4, a5, a6, a7) (nI g) := by
  obtain ⟨hn, hk, hA, hP⟩ := hI
  refine pk_lt kn g (fun z => ?_) (fun z => H kn m e f _ _ _ _ _ _ (Nat.le_refl _) z ⟨hn, hk, hA, hP⟩)
  rw [sx_s4 kn (by omega)]
  have p := hP (kn / 16) (by omega)
  refine sx_load (by omega) (by rw [p.2.1]; exact sx_esc _ _) ?_
  refine nm_r (sx_m16 kn (by omega)) ⟨g - 16 * (kn / 16) + 1, ?_⟩
  have h := sx_rd (post := post) (kn := kn) hn hg (fun m e f b2 b3 b4 b5 b6 b7 hA' hP' => H g m e f b2 b3 b4 b5 b6 b7 (by omega) (Nat.le_refl _) ⟨hn, hg, hA', hP'⟩)
    (g - 16 * (kn / 16)) (16 * (kn / 16)) a2 a3 a4 a5 a6 a7 (by omega) (sx_A_mono hA (by omega) (by omega)) (fun k hk => hP k (by omega))
  rw [← p.1, ← p.2.1, ← p.2.2] at h
  exact h
theorem sx_sa {post : St1 → Prop} {l k : Int32} {kn g : Nat} {a1 a2 a3 a4 a5 a6 a7 : Nat → Int32} (hk : kn ≤ 64) (hg : g ≤ kn) (hA : sx_A a1 kn kn a2 a3 a4)
    (H : post (l, k, (sx_S a1 g).1, (sx_S a1 g).2.1, sx_in (sx_S a1 g).2.2, a1, a2, a3, a4, a5, a6, a7)) :
    ∀ d i : Nat, d + i = g → wX_stateAt_17 post (nI g) (d + 1) (nI i) l k (sx_S a1 i).1 (sx_S a1 i).2.1 (sx_in (sx_S a1 i).2.2) a1 a2 a3 a4 a5 a6 a7 := by
  intro d
  induction d with
  | zero =>
    intro i hi
    have hi' : i = g := by omega
    subst hi'
    exact br_t (nI_le (Nat.le_refl _) (by omega)) H
  | succ d ih =>
    intro i hi
    refine br_f (nI_ge (by omega) (by omega)) ?_
    refine sx_step (by omega) (sx_A_ch hA hk i (by omega)) (fun m' e' st' E => nm_r (nI_1 i) ?_)
    have E2 : sx_S a1 (i + 1) = (m', e', st') := by rw [sx_S1]; exact E
    have h := ih (i + 1) (by omega)
    rw [E2] at h
    exact h
theorem sx_stateAt {post : St1 → Prop} {n kn g : Nat} {m e f : Int32} {a1 a2 a3 a4 a5 a6 a7 : Nat → Int32} (hI : sx_I n kn a1 a2 a3 a4 a5 a6 a7) (hg : g ≤ n)
    (H : ∀ kn' b2 b3 b4 b5 b6 b7, kn ≤ kn' → g ≤ kn' → sx_I n kn' a1 b2 b3 b4 b5 b6 b7 → post (nI n, nI kn', (sx_S a1 g).1, (sx_S a1 g).2.1, sx_in (sx_S a1 g).2.2, a1, b2, b3, b4, b5, b6, b7)) :
    wpX_stateAt post (nI n, nI kn, m, e, f, a1, a2, a3, a4, a5, a6, a7) (nI g) := by
  refine sx_readTo hI hg (fun kn' m e f b2 b3 b4 b5 b6 b7 h1 h2 hI' => ?_)
  have hn := hI'.1
  have hk := hI'.2.1
  have p := hI'.2.2.2 (g / 16) (by omega)
  have h := sx_sa (post := post) (l := nI n) (k := nI kn') (a5 := b5) (a6 := b6) (a7 := b7) (by omega) h2 hI'.2.2.1 (H kn' b2 b3 b4 b5 b6 b7 h1 h2 hI') (g - 16 * (g / 16)) (16 * (g / 16)) (by omega)
  rw [← p.1, ← p.2.1, ← p.2.2] at h
  show wpX_load _ _ (nI g >>> ((4 : Int32) &&& 31))
  rw [sx_s4 g (by omega)]
  refine sx_load (by omega) (by rw [p.2.1]; exact sx_esc _ _) ?_
  exact nm_r (sx_m16 g (by omega)) ⟨_, h⟩
theorem sx_isGap {post : Int32 → Prop} {n g : Nat} {k m e f : Int32} {a1 a2 a3 a4 a5 a6 a7 : Nat → Int32} (hg : g ≤ n) (hn : n ≤ 64) (H : post 1) : wpX_isGap post (nI n, k, m, e, f, a1, a2, a3, a4, a5, a6, a7) (nI g) :=
  br_f (nI_pos (by omega)) (br_f (nI_nlt hg (by omega)) H)
theorem sx_isPlace {post : Int32 → Prop} {n g : Nat} {k m e f : Int32} {a1 a2 a3 a4 a5 a6 a7 : Nat → Int32} (hg : g < n) (hn : n ≤ 64) (H : post 1) : wpX_isPlace post (nI n, k, m, e, f, a1, a2, a3, a4, a5, a6, a7) (nI g) :=
  br_f (nI_pos (by omega)) (br_f (nI_ge hg (by omega)) H)
theorem sx_dp {post : Int32 → Prop} {l k m e f : Int32} {a1 a2 a3 a4 a5 a6 a7 : Nat → Int32} : ∀ (st : List Nat) (c : Nat), sx_ch a4 st → c + st.length ≤ 64 → post (nI (c + st.length)) →
    wX_depthOf_7 post l k m e f a1 a2 a3 a4 a5 a6 a7 (st.length + 1) (nI c) (sx_in st) (nI c) := by
  intro st
  induction st with
  | nil =>
    intro c _ hc hp
    have hc' : c ≤ 64 := hc
    exact pk_le 64 c (fun _ => hp) (fun _ => br_t rfl hp)
  | cons x r ih =>
    intro c hch hc hp
    obtain ⟨h1, h2, h3⟩ := hch
    have el : (x :: r).length = r.length + 1 := rfl
    rw [el] at hc hp ⊢
    have E : a4 (sx_in (x :: r)).toNatClampNeg = sx_in r := by
      show a4 (nI x).toNatClampNeg = sx_in r
      rw [nI_clamp (by omega)]
      exact h2
    have h := ih (c + 1) h3 (by omega) (by rw [show c + 1 + r.length = c + (r.length + 1) by omega]; exact hp)
    exact br_f (nI_ge (b := 64) (by omega) (by omega)) (br_f (sx_neg (show x < 2 ^ 31 by omega)) (nm_r (nI_1 c) ⟨vp_in_nI h1 (by omega), nm_r E (nm_r (nI_1 c) h)⟩))
theorem sx_10 : ¬ (1 : Int32) = 0 := by decide
theorem sx_depth {post : Int32 → St1 → Prop} {n kn g : Nat} {m e f : Int32} {a1 a2 a3 a4 a5 a6 a7 : Nat → Int32} (hI : sx_I n kn a1 a2 a3 a4 a5 a6 a7) (hg : g ≤ n)
    (H : ∀ kn' m e f b2 b3 b4 b5 b6 b7, kn ≤ kn' → sx_I n kn' a1 b2 b3 b4 b5 b6 b7 → post (nI (sx_S a1 g).2.2.length) (nI n, nI kn', m, e, f, a1, b2, b3, b4, b5, b6, b7)) :
    wpX_depth post (nI n, nI kn, m, e, f, a1, a2, a3, a4, a5, a6, a7) (nI g) := by
  have hn := hI.1
  unfold wpX_depth
  dsimp only
  refine sx_isGap hg hn ?_
  refine br_f sx_10 ?_
  refine sx_stateAt hI hg (fun kn' b2 b3 b4 b5 b6 b7 h1 h2 hI' => ?_)
  have hk := hI'.2.1
  have hl := sx_len a1 g
  refine ⟨(sx_S a1 g).2.2.length + 1, sx_dp (sx_S a1 g).2.2 0 (sx_A_ch hI'.2.2.1 (by omega) g h2) (by omega) ?_⟩
  rw [Nat.zero_add]
  exact H kn' _ _ _ b2 b3 b4 b5 b6 b7 h1 hI'
end
section
/-! partner, forward, backward -/
theorem sx_partner {post : Int32 → St1 → Prop} {n kn i : Nat} {m e f : Int32} {a1 a2 a3 a4 a5 a6 a7 : Nat → Int32} (hI : sx_I n kn a1 a2 a3 a4 a5 a6 a7) (hi : i < n)
    (H : ∀ m e f b2 b3 b4 b5 b6 b7 r, sx_I n n a1 b2 b3 b4 b5 b6 b7 → (sx_R a1 i = 1 ∨ sx_R a1 i = 2 → r = b3 i) → (sx_R a1 i ≠ 1 → sx_R a1 i ≠ 2 → r = -2) → post r (nI n, nI n, m, e, f, a1, b2, b3, b4, b5, b6, b7)) :
    wpX_partner post (nI n, nI kn, m, e, f, a1, a2, a3, a4, a5, a6, a7) (nI i) := by
  have hn := hI.1
  unfold wpX_partner
  dsimp only
  refine sx_isPlace hi hn ?_
  refine br_f sx_10 ?_
  refine sx_readTo hI (Nat.le_refl n) (fun kn' m e f b2 b3 b4 b5 b6 b7 _ h2 hI' => ?_)
  have hk := hI'.2.1
  have ek : kn' = n := by omega
  subst ek
  have v : vp_in (nI i) 64 := vp_in_nI (by omega) (by omega)
  have r2 := hI'.2.2.1.1 i hi
  dsimp only
  rw [nI_clamp (show i < 2 ^ 31 by omega), r2]
  exact ⟨v, br_c (fun c1 => ⟨v, H m e f b2 b3 b4 b5 b6 b7 _ hI' (fun _ => rfl) (fun z => absurd c1 z)⟩)
    (fun c1 => ⟨v, br_c (fun c2 => ⟨v, H m e f b2 b3 b4 b5 b6 b7 _ hI' (fun _ => rfl) (fun _ z => absurd c2 z)⟩)
      (fun c2 => H m e f b2 b3 b4 b5 b6 b7 _ hI' (fun z => absurd z (fun w => w.elim c1 c2)) (fun _ _ => rfl))⟩)⟩
/-- a unit begins at i and ends at q -/
def sx_U (K : Nat → Int32) (n i q : Nat) : Prop :=
  i ≤ q ∧ q < n ∧ ((sx_R K q = 2 ∧ ∃ r, (sx_S K q).2.2 = i :: r) ∨ (sx_R K i = 4 ∧ sx_R K q = 5) ∨
    (sx_R K q = 6 ∧ ¬ (q + 1 < n ∧ sx_R K (q + 1) = 6) ∧ (sx_S K (q + 1)).2.1 = 0 ∧ (i = 0 ∨ sx_R K (i - 1) ≠ 6)))
theorem sx_ue44 {post : Int32 → St1 → Prop} {n j0 : Nat} {k m e f : Int32} {a1 a2 a3 a4 a5 a6 a7 : Nat → Int32} (hn : n ≤ 64)
    (H0 : post (-1) (nI n, k, m, e, f, a1, a2, a3, a4, a5, a6, a7)) (H1 : ∀ q, j0 ≤ q → q < n → a2 q = 5 → post (nI q) (nI n, k, m, e, f, a1, a2, a3, a4, a5, a6, a7)) :
    ∀ d j : Nat, d + j = n → j0 ≤ j → wX_unitEnd_44 post (nI n) k m e f a1 a2 a3 a4 a5 a6 a7 (d + 1) (nI j) := by
  intro d
  induction d with
  | zero =>
    intro j hj h0
    have e1 : j = n := by omega
    subst e1
    exact br_t (nI_le (Nat.le_refl _) (by omega)) H0
  | succ d ih =>
    intro j hj h0
    have c1 : (nI j).toNatClampNeg = j := nI_clamp (by omega)
    refine br_f (nI_ge (by omega) (by omega)) ⟨vp_in_nI (by omega) (by omega), ?_⟩
    rw [c1]
    exact br_c (fun c => H1 j h0 (by omega) c) (fun _ => nm_r (nI_1 j) (ih (j + 1) (by omega) (by omega)))
theorem sx_ue104 {post : Int32 → St1 → Prop} {n j0 : Nat} {k m e f : Int32} {a1 a2 a3 a4 a5 a6 a7 : Nat → Int32} (hn : n ≤ 64)
    (H : ∀ q, j0 ≤ q → q < n → a2 q = 6 → ¬ (q + 1 < n ∧ a2 (q + 1) = 6) → wX_unitEnd_133 post (nI q) (nI n) k m e f a1 a2 a3 a4 a5 a6 a7) :
    ∀ d j : Nat, d + 1 + j = n → j0 ≤ j → a2 j = 6 → wX_unitEnd_104 post (nI n) k m e f a1 a2 a3 a4 a5 a6 a7 (d + 1) (nI j) := by
  intro d
  induction d with
  | zero =>
    intro j hj h0 h6
    refine br_t ?_ (H j h0 (by omega) h6 (fun z => absurd z.1 (by omega)))
    rw [nI_1]
    exact nI_le (by omega) (by omega)
  | succ d ih =>
    intro j hj h0 h6
    have c1 : (nI j + 1).toNatClampNeg = j + 1 := by rw [nI_1]; exact nI_clamp (by omega)
    refine br_f (by rw [nI_1]; exact nI_ge (by omega) (by omega)) ⟨by rw [nI_1]; exact vp_in_nI (by omega) (by omega), ?_⟩
    rw [c1]
    exact br_c (fun c => nm_r (nI_1 j) (ih (j + 1) (by omega) (by omega) c)) (fun c => H j h0 (by omega) h6 (fun z => c z.2))
theorem sx_ue133 {post : Int32 → St1 → Prop} {n q : Nat} {m e f : Int32} {a1 a2 a3 a4 a5 a6 a7 : Nat → Int32} (hI : sx_I n n a1 a2 a3 a4 a5 a6 a7) (hq : q < n)
    (H0 : ∀ m e f b2 b3 b4 b5 b6 b7, sx_I n n a1 b2 b3 b4 b5 b6 b7 → post (-1) (nI n, nI n, m, e, f, a1, b2, b3, b4, b5, b6, b7))
    (H1 : (sx_S a1 (q + 1)).2.1 = 0 → ∀ m e f b2 b3 b4 b5 b6 b7, sx_I n n a1 b2 b3 b4 b5 b6 b7 → post (nI q) (nI n, nI n, m, e, f, a1, b2, b3, b4, b5, b6, b7)) :
    wX_unitEnd_133 post (nI q) (nI n) (nI n) m e f a1 a2 a3 a4 a5 a6 a7 := by
  unfold wX_unitEnd_133
  rw [nI_1]
  refine sx_stateAt hI (by omega) (fun kn' b2 b3 b4 b5 b6 b7 h1 h2 hI' => ?_)
  have hk := hI'.2.1
  have ek : kn' = n := by omega
  subst ek
  exact br_c (fun c => H1 c _ _ _ b2 b3 b4 b5 b6 b7 hI') (fun _ => H0 _ _ _ b2 b3 b4 b5 b6 b7 hI')
theorem sx_unitEnd {post : Int32 → St1 → Prop} {n i : Nat} {m e f : Int32} {a1 a2 a3 a4 a5 a6 a7 : Nat → Int32} (hI : sx_I n n a1 a2 a3 a4 a5 a6 a7) (hi : i < n)
    (H0 : ∀ m e f b2 b3 b4 b5 b6 b7, sx_I n n a1 b2 b3 b4 b5 b6 b7 → post (-1) (nI n, nI n, m, e, f, a1, b2, b3, b4, b5, b6, b7))
    (H1 : ∀ q, sx_U a1 n i q → ∀ m e f b2 b3 b4 b5 b6 b7, sx_I n n a1 b2 b3 b4 b5 b6 b7 → post (nI q) (nI n, nI n, m, e, f, a1, b2, b3, b4, b5, b6, b7)) :
    wpX_unitEnd post (nI n, nI n, m, e, f, a1, a2, a3, a4, a5, a6, a7) (nI i) := by
  have hn := hI.1
  obtain ⟨A1, A2, A3, A4⟩ := hI.2.2.1
  have c1 : (nI i).toNatClampNeg = i := nI_clamp (by omega)
  have v : vp_in (nI i) 64 := vp_in_nI (by omega) (by omega)
  have N : post (-1) (nI n, nI n, m, e, f, a1, a2, a3, a4, a5, a6, a7) := H0 m e f a2 a3 a4 a5 a6 a7 hI
  unfold wpX_unitEnd
  dsimp only
  rw [c1]
  refine ⟨v, br_c (fun g1 => ⟨v, ?_⟩) (fun g1 => ⟨v, br_c (fun g4 => ?_) (fun g4 => ⟨v, br_c (fun g6 => ?_) (fun _ => N)⟩)⟩)⟩
  · rcases A4 i hi (by rw [← A1 i hi]; exact g1) with z | ⟨q, r, z1, z2, z3, z4, z5⟩
    · rw [z]
      exact br_f (by decide) N
    · rw [z3]
      exact br_t (nI_pos' (by omega)) ⟨v, H1 q ⟨by omega, z2, Or.inl ⟨z4, r, z5⟩⟩ m e f a2 a3 a4 a5 a6 a7 hI⟩
  · refine nm_r (nI_1 i) ⟨n - (i + 1) + 1, sx_ue44 (j0 := i + 1) hn N (fun q h1 h2 h3 => H1 q ⟨by omega, h2, Or.inr (Or.inl ⟨?_, ?_⟩)⟩ m e f a2 a3 a4 a5 a6 a7 hI) (n - (i + 1)) (i + 1) (by omega) (Nat.le_refl _)⟩
    · rw [← A1 i hi]; exact g4
    · rw [← A1 q h2]; exact h3
  · have W : (i = 0 ∨ sx_R a1 (i - 1) ≠ 6) → ∃ fu, wX_unitEnd_104 post (nI n) (nI n) m e f a1 a2 a3 a4 a5 a6 a7 fu (nI i) := by
      intro hw
      refine ⟨n - 1 - i + 1, sx_ue104 (j0 := i) hn (fun q h1 h2 h3 h4 => sx_ue133 hI h2 H0 (fun hs => H1 q ⟨h1, h2, Or.inr (Or.inr ⟨?_, ?_, hs, hw⟩)⟩)) (n - 1 - i) i (by omega) (Nat.le_refl _) g6⟩
      · rw [← A1 q h2]; exact h3
      · intro z
        rw [← A1 (q + 1) z.1] at z
        exact h4 z
    cases i with
    | zero => exact br_t (by decide) (W (Or.inl rfl))
    | succ i =>
      rw [nI_pred]
      refine br_f (nI_nle (by omega) (by omega)) ⟨vp_in_nI (by omega) (by omega), ?_⟩
      rw [nI_clamp (show i < 2 ^ 31 by omega)]
      refine br_c (fun _ => N) (fun c => W (Or.inr ?_))
      rw [Nat.add_sub_cancel, ← A1 i (by omega)]
      exact c
theorem sx_fw {post : Int32 → St1 → Prop} {n i : Nat} {a1 : Nat → Int32} (hn : n ≤ 64)
    (H0 : ∀ r m e f b2 b3 b4 b5 b6 b7, r < 0 → ¬ 0 ≤ r → sx_I n n a1 b2 b3 b4 b5 b6 b7 → post r (nI n, nI n, m, e, f, a1, b2, b3, b4, b5, b6, b7))
    (H1 : ∀ j q, i ≤ j → sx_U a1 n j q → ∀ m e f b2 b3 b4 b5 b6 b7, sx_I n n a1 b2 b3 b4 b5 b6 b7 → post (nI (q + 1)) (nI n, nI n, m, e, f, a1, b2, b3, b4, b5, b6, b7)) :
    ∀ (d j : Nat) (m e f : Int32) (b2 b3 b4 b5 b6 b7 : Nat → Int32), d + j = n → i ≤ j → sx_I n n a1 b2 b3 b4 b5 b6 b7 → wX_forward_20 post (d + 1) (nI j) (nI n) (nI n) m e f a1 b2 b3 b4 b5 b6 b7 := by
  intro d
  induction d with
  | zero =>
    intro j m e f b2 b3 b4 b5 b6 b7 hj h0 hI
    have e1 : j = n := by omega
    subst e1
    exact br_t (nI_le (Nat.le_refl _) (by omega)) (H0 _ _ _ _ _ _ _ _ _ _ (by decide) (by decide) hI)
  | succ d ih =>
    intro j m e f b2 b3 b4 b5 b6 b7 hj h0 hI
    have c1 : (nI j).toNatClampNeg = j := nI_clamp (by omega)
    have v : vp_in (nI j) 64 := vp_in_nI (by omega) (by omega)
    refine br_f (nI_ge (by omega) (by omega)) ⟨v, ?_⟩
    rw [c1]
    refine br_c (fun _ => H0 _ _ _ _ _ _ _ _ _ _ (by decide) (by decide) hI) (fun _ => ⟨v, br_c (fun _ => H0 _ _ _ _ _ _ _ _ _ _ (by decide) (by decide) hI) (fun _ => ?_)⟩)
    refine sx_unitEnd hI (by omega) (fun m e f c2 c3 c4 c5 c6 c7 hI' => ?_) (fun q hU m e f c2 c3 c4 c5 c6 c7 hI' => ?_)
    · exact br_t (by decide) (nm_r (nI_1 j) (ih (j + 1) m e f c2 c3 c4 c5 c6 c7 (by omega) (by omega) hI'))
    · have hq := hU.2.1
      refine br_f (nI_pos (by omega)) ?_
      rw [nI_1]
      exact H1 j q h0 hU m e f c2 c3 c4 c5 c6 c7 hI'
theorem sx_forward {post : Int32 → St1 → Prop} {n kn i : Nat} {m e f : Int32} {a1 a2 a3 a4 a5 a6 a7 : Nat → Int32} (hI : sx_I n kn a1 a2 a3 a4 a5 a6 a7) (hi : i ≤ n)
    (H0 : ∀ r m e f b2 b3 b4 b5 b6 b7, r < 0 → ¬ 0 ≤ r → sx_I n n a1 b2 b3 b4 b5 b6 b7 → post r (nI n, nI n, m, e, f, a1, b2, b3, b4, b5, b6, b7))
    (H1 : ∀ j q, i ≤ j → sx_U a1 n j q → ∀ m e f b2 b3 b4 b5 b6 b7, sx_I n n a1 b2 b3 b4 b5 b6 b7 → post (nI (q + 1)) (nI n, nI n, m, e, f, a1, b2, b3, b4, b5, b6, b7)) :
    wpX_forward post (nI n, nI kn, m, e, f, a1, a2, a3, a4, a5, a6, a7) (nI i) := by
  have hn := hI.1
  unfold wpX_forward
  dsimp only
  refine sx_isGap hi hn ?_
  refine br_f sx_10 ?_
  refine sx_readTo hI (Nat.le_refl n) (fun kn' m e f b2 b3 b4 b5 b6 b7 _ h2 hI' => ?_)
  have hk := hI'.2.1
  have ek : kn' = n := by omega
  subst ek
  exact ⟨kn' - i + 1, sx_fw hn H0 H1 (kn' - i) i m e f b2 b3 b4 b5 b6 b7 (by omega) (Nat.le_refl _) hI'⟩
theorem sx_us29 {post : Int32 → St1 → Prop} {i q : Nat} {l k m e f : Int32} {a1 a2 a3 a4 a5 a6 a7 : Nat → Int32} (hq : q < 64) (h4 : a2 i = 4)
    (H : ∀ r, i ≤ r → r ≤ q → post (nI r) (l, k, m, e, f, a1, a2, a3, a4, a5, a6, a7)) :
    ∀ d : Nat, i + d ≤ q → wX_unitStart_29 post l k m e f a1 a2 a3 a4 a5 a6 a7 (d + 1) (nI (i + d)) := by
  intro d
  induction d with
  | zero =>
    intro hd
    have c1 : (nI (i + 0)).toNatClampNeg = i := nI_clamp (show i < 2 ^ 31 by omega)
    refine br_c (fun _ => H (i + 0) (by omega) (by omega)) (fun _ => ⟨vp_in_nI (by omega) (by omega), ?_⟩)
    rw [c1]
    exact br_t h4 (H (i + 0) (by omega) (by omega))
  | succ d ih =>
    intro hd
    have c1 : (nI (i + (d + 1))).toNatClampNeg = i + (d + 1) := nI_clamp (by omega)
    refine br_f (nI_nle (by omega) (by omega)) ⟨vp_in_nI (by omega) (by omega), ?_⟩
    exact br_c (fun _ => H _ (by omega) (by omega)) (fun _ => nm_r (pk_m1 (i + d)) (ih (by omega)))
theorem sx_us105 {post : Int32 → St1 → Prop} {i q : Nat} {l k m e f : Int32} {a1 a2 a3 a4 a5 a6 a7 : Nat → Int32} (hq : q < 64) (h6 : i = 0 ∨ a2 (i - 1) ≠ 6)
    (H : ∀ r, i ≤ r → r ≤ q → post (nI r) (l, k, m, e, f, a1, a2, a3, a4, a5, a6, a7)) :
    ∀ d : Nat, i + d ≤ q → wX_unitStart_105 post l k m e f a1 a2 a3 a4 a5 a6 a7 (d + 1) (nI (i + d)) := by
  intro d
  induction d with
  | zero =>
    intro hd
    cases i with
    | zero => exact br_t (by decide) (H 0 (by omega) (by omega))
    | succ i =>
      refine br_f (nI_nle (by omega) (by omega)) ?_
      have e1 : nI (i + 1 + 0) - 1 = nI i := nI_pred i
      rw [e1]
      refine ⟨vp_in_nI (by omega) (by omega), ?_⟩
      rw [nI_clamp (show i < 2 ^ 31 by omega)]
      exact br_f (h6.resolve_left (by omega)) (H (i + 1 + 0) (by omega) (by omega))
  | succ d ih =>
    intro hd
    refine br_f (nI_nle (by omega) (by omega)) ⟨?_, ?_⟩
    · have e1 : nI (i + (d + 1)) - 1 = nI (i + d) := nI_pred (i + d)
      rw [e1]
      exact vp_in_nI (by omega) (by omega)
    · exact br_c (fun _ => nm_r (pk_m1 (i + d)) (ih (by omega))) (fun _ => H _ (by omega) (by omega))
theorem sx_unitStart {post : Int32 → St1 → Prop} {n i q : Nat} {m e f : Int32} {a1 a2 a3 a4 a5 a6 a7 : Nat → Int32} (hI : sx_I n n a1 a2 a3 a4 a5 a6 a7) (hU : sx_U a1 n i q)
    (H : ∀ r, i ≤ r → r ≤ q → ∀ m e f b2 b3 b4 b5 b6 b7, sx_I n n a1 b2 b3 b4 b5 b6 b7 → post (nI r) (nI n, nI n, m, e, f, a1, b2, b3, b4, b5, b6, b7)) :
    wpX_unitStart post (nI n, nI n, m, e, f, a1, a2, a3, a4, a5, a6, a7) (nI q) := by
  have hn := hI.1
  obtain ⟨A1, A2, A3, A4⟩ := hI.2.2.1
  obtain ⟨hiq, hqn, hU⟩ := hU
  have c1 : (nI q).toNatClampNeg = q := nI_clamp (by omega)
  have v : vp_in (nI q) 64 := vp_in_nI (by omega) (by omega)
  unfold wpX_unitStart
  dsimp only
  rw [c1, A1 q hqn]
  rcases hU with ⟨u1, r, u2⟩ | ⟨u1, u2⟩ | ⟨u1, u2, u3, u4⟩
  · refine ⟨v, br_t u1 ⟨v, ?_⟩⟩
    rw [(A3 q i r hqn u1 u2).1]
    exact H i (Nat.le_refl _) hiq m e f a2 a3 a4 a5 a6 a7 hI
  · rw [u2]
    refine ⟨v, br_f (by decide) ⟨v, br_t rfl ⟨q - i + 1, ?_⟩⟩⟩
    have h := sx_us29 (post := post) (l := nI n) (k := nI n) (m := m) (e := e) (f := f) (a1 := a1) (a3 := a3) (a4 := a4) (a5 := a5) (a6 := a6) (a7 := a7) (i := i) (q := q) (a2 := a2) (by omega) (by rw [A1 i (by omega)]; exact u1)
      (fun r h1 h2 => H r h1 h2 m e f a2 a3 a4 a5 a6 a7 hI) (q - i) (by omega)
    rw [show i + (q - i) = q by omega] at h
    exact h
  · have W : wX_unitStart_87 post (nI q) (nI n) (nI n) m e f a1 a2 a3 a4 a5 a6 a7 := by
      unfold wX_unitStart_87
      rw [nI_1]
      refine sx_stateAt hI (by omega) (fun kn' b2 b3 b4 b5 b6 b7 h1 h2 hI' => ?_)
      have hk := hI'.2.1
      have ek : kn' = n := by omega
      subst ek
      refine br_t u3 ⟨q - i + 1, ?_⟩
      have h := sx_us105 (post := post) (l := nI kn') (k := nI kn') (m := (sx_S a1 (q + 1)).1) (e := (sx_S a1 (q + 1)).2.1) (f := sx_in (sx_S a1 (q + 1)).2.2) (a1 := a1) (a3 := b3) (a4 := b4) (a5 := b5) (a6 := b6) (a7 := b7) (i := i) (q := q) (a2 := b2) (by omega)
        (by
          rcases u4 with z | z
          · exact Or.inl z
          · exact Or.inr (by rw [hI'.2.2.1.1 (i - 1) (by omega)]; exact z))
        (fun r h1 h2 => H r h1 h2 _ _ _ b2 b3 b4 b5 b6 b7 hI') (q - i) (by omega)
      rw [show i + (q - i) = q by omega] at h
      exact h
    rw [u1]
    refine ⟨v, br_f (by decide) ⟨v, br_f (by decide) ⟨v, br_t rfl ?_⟩⟩⟩
    rw [nI_1]
    refine pk_le n (q + 1) (fun _ => W) (fun z => ⟨vp_in_nI (by omega) (by omega), ?_⟩)
    rw [nI_clamp (show q + 1 < 2 ^ 31 by omega), A1 (q + 1) z]
    exact br_f (fun w => u2 ⟨z, w⟩) W
theorem sx_backward {post : Int32 → St1 → Prop} {n kn i q : Nat} {m e f : Int32} {a1 a2 a3 a4 a5 a6 a7 : Nat → Int32} (hI : sx_I n kn a1 a2 a3 a4 a5 a6 a7) (hU : sx_U a1 n i q)
    (H : ∀ r, i ≤ r → r ≤ q → ∀ m e f b2 b3 b4 b5 b6 b7, sx_I n n a1 b2 b3 b4 b5 b6 b7 → post (nI r) (nI n, nI n, m, e, f, a1, b2, b3, b4, b5, b6, b7)) :
    wpX_backward post (nI n, nI kn, m, e, f, a1, a2, a3, a4, a5, a6, a7) (nI (q + 1)) := by
  have hn := hI.1
  have hq := hU.2.1
  have hR : ¬ sx_R a1 q = 1 := by
    rcases hU.2.2 with ⟨u1, _⟩ | ⟨_, u1⟩ | ⟨u1, _⟩ <;> rw [u1] <;> decide
  unfold wpX_backward
  dsimp only
  refine sx_isGap (by omega) hn ?_
  refine br_f sx_10 ?_
  refine sx_readTo hI (Nat.le_refl n) (fun kn' m e f b2 b3 b4 b5 b6 b7 _ h2 hI' => ?_)
  have hk := hI'.2.1
  have ek : kn' = n := by omega
  subst ek
  dsimp only
  refine nm_r (nI_pred q) ⟨0 + 1, ?_⟩
  refine br_f (nI_pos (by omega)) ⟨vp_in_nI (by omega) (by omega), ?_⟩
  rw [nI_clamp (show q < 2 ^ 31 by omega), hI'.2.2.1.1 q hq]
  refine br_f hR ?_
  refine sx_unitStart hI' hU (fun r h1 h2 m e f c2 c3 c4 c5 c6 c7 hI'' => ?_)
  exact br_f (nI_pos (by omega)) (H r h1 h2 m e f c2 c3 c4 c5 c6 c7 hI'')
end
section
/-! edits: forgetFrom, insert, delete, set, turn -/
theorem sx_m2 {n : Nat} (h : n < 2 ^ 31) : (-2 : Int32) < nI n := by
  rw [Int32.lt_iff_toInt_lt, nI_toInt h]
  have e : (-2 : Int32).toInt = -2 := by decide
  omega
/-- partners behind kn are forgotten below i -/
def sx_F (kn i : Nat) (a2 a3 b3 : Nat → Int32) : Prop :=
  (∀ j, b3 j = a3 j ∨ (b3 j = -2 ∧ j < i ∧ a2 j = 1 ∧ ¬ a3 j < nI kn)) ∧ (∀ j, j < i → a2 j = 1 → b3 j < nI kn)
theorem sx_fg {post : St1 → Prop} {kn : Nat} {l m e f : Int32} {a1 a2 a3 a4 a5 a6 a7 : Nat → Int32} (hk : kn ≤ 64)
    (H : ∀ b3, sx_F kn kn a2 a3 b3 → post (l, nI kn, m, e, f, a1, a2, b3, a4, a5, a6, a7)) :
    ∀ (d i : Nat) (b3 : Nat → Int32), d + i = kn → sx_F kn i a2 a3 b3 → wX_forgetFrom_15 post l (nI kn) m e f (d + 1) (nI i) a1 a2 b3 a4 a5 a6 a7 := by
  intro d
  induction d with
  | zero =>
    intro i b3 hi hF
    have e1 : i = kn := by omega
    subst e1
    exact br_t (nI_le (Nat.le_refl _) (by omega)) (H b3 hF)
  | succ d ih =>
    intro i b3 hi hF
    have c1 : (nI i).toNatClampNeg = i := nI_clamp (by omega)
    have v : vp_in (nI i) 64 := vp_in_nI (by omega) (by omega)
    obtain ⟨F1, F2⟩ := hF
    have bi : b3 i = a3 i := by
      rcases F1 i with z | ⟨_, z, _⟩
      · exact z
      · omega
    have G : ∀ j, b3 j = a3 j ∨ (b3 j = -2 ∧ j < i + 1 ∧ a2 j = 1 ∧ ¬ a3 j < nI kn) := by
      intro j
      rcases F1 j with z | ⟨z1, z2, z3⟩
      · exact Or.inl z
      · exact Or.inr ⟨z1, by omega, z3⟩
    refine br_f (nI_ge (by omega) (by omega)) ⟨v, ?_⟩
    rw [c1, bi]
    refine br_c (fun g1 => ⟨v, br_c (fun g => nm_r (nI_1 i) (ih (i + 1) b3 (by omega) ⟨G, ?_⟩)) (fun g => ⟨v, nm_e (nm_r (nI_1 i) (ih (i + 1) (upd b3 i (-2)) (by omega) ⟨?_, ?_⟩))⟩)⟩)
      (fun g1 => nm_r (nI_1 i) (ih (i + 1) b3 (by omega) ⟨G, ?_⟩))
    · intro j hj h1
      by_cases ej : j = i
      · rw [ej, bi]; exact g
      · exact F2 j (by omega) h1
    · intro j
      by_cases ej : j = i
      · rw [ej]
        exact Or.inr ⟨pk_us, by omega, g1, g⟩
      · rw [pk_un ej]
        exact G j
    · intro j hj h1
      by_cases ej : j = i
      · rw [ej, pk_us]
        exact sx_m2 (by omega)
      · rw [pk_un ej]
        exact F2 j (by omega) h1
    · intro j hj h1
      by_cases ej : j = i
      · rw [ej] at h1
        exact absurd h1 g1
      · exact F2 j (by omega) h1
theorem sx_FI {n kn g c : Nat} {a1 b1 a2 a3 b3 a4 a5 a6 a7 : Nat → Int32} (hA : sx_A a1 kn kn a2 a3 a4) (hP : sx_P a1 (kn + 1) a5 a6 a7) (hb : ∀ j, j < g → a1 j = b1 j) (hn : n ≤ 64) (hg : g ≤ n) (hk : kn ≤ 64)
    (c1 : c ≤ kn) (c2 : c ≤ g) (hF : sx_F c c a2 a3 b3) : sx_I n c b1 a2 b3 a4 a5 a6 a7 := by
  obtain ⟨A1, A2, A3, A4⟩ := hA
  obtain ⟨F1, F2⟩ := hF
  have eS : ∀ j, j ≤ c → sx_S b1 j = sx_S a1 j := fun j hj => (sx_cut j (fun i hi => hb i (by omega))).symm
  have eR : ∀ j, j < c → sx_R b1 j = sx_R a1 j := fun j hj => (sx_cutR hb (by omega)).symm
  refine ⟨hn, by omega, ⟨?_, ?_, ?_, ?_⟩, ?_⟩
  · intro j hj
    rw [eR j hj]
    exact A1 j (by omega)
  · intro j hj hr
    rw [eR j hj] at hr
    rw [eS j (by omega)]
    exact A2 j (by omega) hr
  · intro q x r hq hr hs
    rw [eR q hq] at hr
    rw [eS q (by omega)] at hs
    obtain ⟨z1, z2⟩ := A3 q x r (by omega) hr hs
    refine ⟨?_, ?_⟩
    · rcases F1 q with w | ⟨_, _, w, _⟩
      · rw [w]; exact z1
      · rw [A1 q (by omega), hr] at w
        exact absurd w (by decide)
    · rcases F1 x with w | ⟨_, _, _, w⟩
      · rw [w]; exact z2
      · rw [z2] at w
        exact absurd (nI_lt hq (by omega)) w
  · intro j hj hr
    rw [eR j hj] at hr
    have lt := F2 j hj (by rw [A1 j (by omega)]; exact hr)
    rcases F1 j with w | ⟨w, _⟩
    · rcases A4 j (by omega) hr with z | ⟨q, r, z1, z2, z3, z4, z5⟩
      · exact Or.inl (by rw [w]; exact z)
      · rw [w, z3] at lt
        have hq : q < c := (nI_ltI (by omega) (by omega)).mp lt
        exact Or.inr ⟨q, r, z1, hq, by rw [w]; exact z3, by rw [eR q hq]; exact z4, by rw [eS q (by omega)]; exact z5⟩
    · exact Or.inl w
  · intro k hk'
    rw [eS (16 * k) (by omega)]
    exact hP k (by omega)
theorem sx_F0 {kn : Nat} {a2 a3 : Nat → Int32} : sx_F kn 0 a2 a3 a3 := ⟨fun _ => Or.inl rfl, fun j hj => absurd hj (by omega)⟩
theorem sx_forget {post : St1 → Prop} {n kn g : Nat} {m e f : Int32} {a1 b1 a2 a3 a4 a5 a6 a7 : Nat → Int32} (hA : sx_A a1 kn kn a2 a3 a4) (hP : sx_P a1 (kn + 1) a5 a6 a7) (hb : ∀ j, j < g → a1 j = b1 j) (hn : n ≤ 64) (hg : g ≤ n) (hk : kn ≤ 64)
    (H : ∀ kn' b3, sx_I n kn' b1 a2 b3 a4 a5 a6 a7 → post (nI n, nI kn', m, e, f, b1, a2, b3, a4, a5, a6, a7)) :
    wpX_forgetFrom post (nI n, nI kn, m, e, f, b1, a2, a3, a4, a5, a6, a7) (nI g) :=
  pk_le kn g (fun z => ⟨kn + 1, sx_fg hk (fun b3 hF => H kn b3 (sx_FI hA hP hb hn hg hk (Nat.le_refl _) z hF)) kn 0 a3 (by omega) sx_F0⟩)
    (fun z => ⟨g + 1, sx_fg (by omega) (fun b3 hF => H g b3 (sx_FI hA hP hb hn hg hk (by omega) (Nat.le_refl _) hF)) g 0 a3 (by omega) sx_F0⟩)
theorem sx_isKind {post : Int32 → Prop} {v : Int32} (H0 : post 0) (H1 : post 1) : wpX_isKind post () v := br_c (fun _ => H0) (fun _ => br_c (fun _ => H0) (fun _ => H1))
theorem sx_ins {post : Int32 → St1 → Prop} {n kn g : Nat} {v m e f : Int32} {a1 a2 a3 a4 a5 a6 a7 : Nat → Int32} (hI : sx_I n kn a1 a2 a3 a4 a5 a6 a7) (hg : g ≤ n) (hn : n < 64)
    (H : ∀ r n' kn' b1 b3, sx_I n' kn' b1 a2 b3 a4 a5 a6 a7 → post r (nI n', nI kn', m, e, f, b1, a2, b3, a4, a5, a6, a7)) :
    ∀ (d : Nat) (b1 : Nat → Int32), g + d ≤ n → (∀ j, j < g → a1 j = b1 j) → wX_insert_37 post (nI g) v (nI n) (nI kn) m e f (d + 1) (nI (g + d)) b1 a2 a3 a4 a5 a6 a7 := by
  obtain ⟨_, hk, hA, hP⟩ := hI
  intro d
  induction d with
  | zero =>
    intro b1 hd hb
    have c1 : (nI g).toNatClampNeg = g := nI_clamp (by omega)
    refine br_t (nI_le (Nat.le_refl _) (by omega)) ⟨vp_in_nI (by omega) (by omega), ?_⟩
    rw [c1]
    refine nm_e (nm_r (nI_1 n) ?_)
    exact sx_forget hA hP (fun j hj => by rw [pk_un (by omega)]; exact hb j hj) (by omega) (by omega) (by omega) (fun kn' b3 hI' => H _ (n + 1) kn' _ b3 hI')
  | succ d ih =>
    intro b1 hd hb
    have c1 : (nI (g + (d + 1))).toNatClampNeg = g + (d + 1) := nI_clamp (by omega)
    refine br_f (nI_ge (by omega) (by omega)) ⟨?_, vp_in_nI (by omega) (by omega), ?_⟩
    · have e1 : nI (g + (d + 1)) - 1 = nI (g + d) := nI_pred (g + d)
      rw [e1]
      exact vp_in_nI (by omega) (by omega)
    · rw [c1]
      exact nm_e (nm_r (pk_m1 (g + d)) (ih _ (by omega) (fun j hj => by rw [pk_un (by omega)]; exact hb j hj)))
theorem sx_insert {post : Int32 → St1 → Prop} {n kn g : Nat} {v m e f : Int32} {a1 a2 a3 a4 a5 a6 a7 : Nat → Int32} (hI : sx_I n kn a1 a2 a3 a4 a5 a6 a7) (hg : g ≤ n)
    (H : ∀ r n' kn' b1 b3, sx_I n' kn' b1 a2 b3 a4 a5 a6 a7 → post r (nI n', nI kn', m, e, f, b1, a2, b3, a4, a5, a6, a7)) :
    wpX_insert post (nI n, nI kn, m, e, f, a1, a2, a3, a4, a5, a6, a7) (nI g) v := by
  have hn := hI.1
  unfold wpX_insert
  dsimp only
  refine sx_isGap hg hn ?_
  refine br_f sx_10 ?_
  refine sx_isKind ?_ ?_
  · exact br_t rfl (H _ n kn a1 a3 hI)
  · refine br_f sx_10 ?_
    refine pk_eq n 64 (fun _ => H _ n kn a1 a3 hI) (fun z => ⟨n - g + 1, ?_⟩)
    have h := sx_ins (v := v) hI hg (by omega) H (n - g) a1 (by omega) (fun j _ => rfl)
    rw [show g + (n - g) = n by omega] at h
    exact h
theorem sx_same {f : Nat → Int32} {k : Nat} : upd f k (f k) = f := by
  funext j
  by_cases e : j = k
  · rw [e, pk_us]
  · rw [pk_un e]
theorem sx_del {post : Int32 → St1 → Prop} {n kn g t : Nat} {m e f : Int32} {a1 a2 a3 a4 a5 a6 a7 : Nat → Int32} (hI : sx_I n kn a1 a2 a3 a4 a5 a6 a7) (hg : g + t ≤ n)
    (H : ∀ r n' kn' b1 b3, sx_I n' kn' b1 a2 b3 a4 a5 a6 a7 → post r (nI n', nI kn', m, e, f, b1, a2, b3, a4, a5, a6, a7)) :
    ∀ (d i : Nat) (b1 : Nat → Int32), d + i = n → g + t ≤ i → (∀ j, j < g → a1 j = b1 j) → (t = 0 → b1 = a1) → wX_delete_26 post (nI g) (nI t) (nI n) (nI kn) m e f (d + 1) (nI i) b1 a2 a3 a4 a5 a6 a7 := by
  obtain ⟨hn, hk, hA, hP⟩ := hI
  intro d
  induction d with
  | zero =>
    intro i b1 hi h0 hb ht
    have e1 : i = n := by omega
    subst e1
    refine br_t (nI_le (Nat.le_refl _) (by omega)) (nm_r (pk_sub (show t ≤ i by omega)) ?_)
    refine pk_le t 0 (fun z => ?_) (fun z => ?_)
    · have t0 : t = 0 := by omega
      have eb := ht t0
      subst eb
      exact H _ (i - t) kn b1 a3 ⟨by omega, by omega, hA, hP⟩
    · exact sx_forget hA hP hb (by omega) (by omega) (by omega) (fun kn' b3 hI' => H _ (i - t) kn' _ b3 hI')
  | succ d ih =>
    intro i b1 hi h0 hb ht
    have c1 : (nI i).toNatClampNeg = i := nI_clamp (by omega)
    have c2 : (nI (i - t)).toNatClampNeg = i - t := nI_clamp (by omega)
    refine br_f (nI_ge (by omega) (by omega)) ⟨vp_in_nI (by omega) (by omega), ?_⟩
    rw [pk_sub (show t ≤ i by omega), c1, c2]
    refine ⟨vp_in_nI (by omega) (by omega), nm_e (nm_r (nI_1 i) (ih (i + 1) _ (by omega) (by omega) (fun j hj => by rw [pk_un (by omega)]; exact hb j hj) (fun t0 => ?_)))⟩
    rw [t0, Nat.sub_zero, sx_same]
    exact ht t0
theorem sx_delete {post : Int32 → St1 → Prop} {n kn g t : Nat} {m e f : Int32} {a1 a2 a3 a4 a5 a6 a7 : Nat → Int32} (hI : sx_I n kn a1 a2 a3 a4 a5 a6 a7) (hg : g ≤ n) (ht : t < 4)
    (H : ∀ r n' kn' b1 b3, sx_I n' kn' b1 a2 b3 a4 a5 a6 a7 → post r (nI n', nI kn', m, e, f, b1, a2, b3, a4, a5, a6, a7)) :
    wpX_delete post (nI n, nI kn, m, e, f, a1, a2, a3, a4, a5, a6, a7) (nI g) (nI (g + t)) := by
  have hn := hI.1
  refine br_f (nI_pos (by omega)) (br_f (nI_nlt (by omega) (by omega)) ?_)
  refine pk_le (g + t) n (fun z => nm_r (pk_sub (show g ≤ g + t by omega)) ⟨n - (g + t) + 1, ?_⟩) (fun z => H _ n kn a1 a3 hI)
  rw [Nat.add_sub_cancel_left]
  exact sx_del hI z H (n - (g + t)) (g + t) a1 (by omega) (Nat.le_refl _) (fun _ _ => rfl) (fun _ => rfl)
theorem sx_set {post : Int32 → St1 → Prop} {n kn g : Nat} {v m e f : Int32} {a1 a2 a3 a4 a5 a6 a7 : Nat → Int32} (hI : sx_I n kn a1 a2 a3 a4 a5 a6 a7) (hg : g ≤ n)
    (H : ∀ r n' kn' b1 b3, sx_I n' kn' b1 a2 b3 a4 a5 a6 a7 → post r (nI n', nI kn', m, e, f, b1, a2, b3, a4, a5, a6, a7)) :
    wpX_set post (nI n, nI kn, m, e, f, a1, a2, a3, a4, a5, a6, a7) (nI g) v := by
  have hn := hI.1
  have hk := hI.2.1
  unfold wpX_set
  dsimp only
  by_cases c : g = n
  · subst c
    refine br_f (nI_pos (by omega)) ?_
    refine br_t (nI_le (Nat.le_refl _) (by omega)) ?_
    exact br_t rfl (H _ g kn a1 a3 hI)
  · refine sx_isPlace (show g < n by omega) hn ?_
    refine br_f sx_10 ?_
    refine sx_isKind ?_ ?_
    · exact br_t rfl (H _ n kn a1 a3 hI)
    · refine br_f sx_10 ?_
      have v1 : vp_in (nI g) 64 := vp_in_nI (by omega) (by omega)
      rw [nI_clamp (show g < 2 ^ 31 by omega)]
      refine ⟨v1, nm_e ⟨v1, nm_e ?_⟩⟩
      exact sx_forget hI.2.2.1 hI.2.2.2 (fun j hj => by rw [pk_un (by omega)]) hn hg (by omega) (fun kn' b3 hI' => H _ n kn' _ b3 hI')
theorem sx_red {post : Int32 → Prop} {v : Int32} {n : Nat} (hn : n ≤ 64) (H : ∀ g, g ≤ n → post (nI g)) : wpL_red post () v (nI n + 1) := by
  obtain ⟨j, hj, e⟩ := pk_andE v (m := 2147483647) 31 (by decide)
  have h1 : (1 : Int32) ≤ nI (n + 1) := nI_le (a := 1) (by omega) (by omega)
  unfold wpL_red
  rw [nI_1, e]
  refine br_t h1 ⟨nI_ne0 (by omega) (by omega), ?_⟩
  rw [pk_rem (by omega) (by omega) (by omega)]
  exact H _ (by have := Nat.mod_lt j (show 0 < n + 1 by omega); omega)
theorem sx_turn {post : St1 → Prop} {n kn : Nat} {c d m e f : Int32} {a1 a2 a3 a4 a5 a6 a7 : Nat → Int32} (hI : sx_I n kn a1 a2 a3 a4 a5 a6 a7)
    (H : ∀ n' kn' b1 b3, sx_I n' kn' b1 a2 b3 a4 a5 a6 a7 → post (nI n', nI kn', m, e, f, b1, a2, b3, a4, a5, a6, a7)) :
    wpL_turn post (nI n, nI kn, m, e, f, a1, a2, a3, a4, a5, a6, a7) c d := by
  have hn := hI.1
  unfold wpL_turn
  dsimp only
  show wpX_length _ _
  unfold wpX_length
  dsimp only
  refine nm_e ?_
  refine sx_red hn (fun g hg => nm_e ?_)
  refine br_c (fun _ => br_c (fun _ => br_c (fun _ => ?_) (fun _ => br_c (fun _ => ?_) (fun _ => ?_))) (fun _ => br_c (fun _ => ?_) (fun _ => ?_))) (fun _ => ?_)
  · exact sx_set hI hg (fun _ n' kn' b1 b3 h => H n' kn' b1 b3 h)
  · obtain ⟨t, ht, et⟩ := pk_andE (d >>> ((8 : Int32) &&& 31)) (m := 3) 2 (by decide)
    rw [et, nI_add]
    exact sx_delete hI hg ht (fun _ n' kn' b1 b3 h => H n' kn' b1 b3 h)
  · exact sx_insert hI hg (fun _ n' kn' b1 b3 h => H n' kn' b1 b3 h)
  · unfold wL_turn_73
    exact sx_insert hI (Nat.le_refl n) (fun _ n' kn' b1 b3 h => H n' kn' b1 b3 h)
  · unfold wL_turn_73
    exact sx_insert hI (Nat.le_refl n) (fun _ n' kn' b1 b3 h => H n' kn' b1 b3 h)
  · exact sx_insert hI hg (fun _ n' kn' b1 b3 h => H n' kn' b1 b3 h)
end
section
/-! the law: holds, its loop, the script's loop -/
theorem sx_stp {a b : Nat} (h : a = b + 1 ∨ a + 1 = b ∨ a = b) : ¬ nI a - nI b < -1 ∧ nI a - nI b ≤ 1 := by
  rcases h with z | z | z
  · rw [z, pk_sub (by omega), Nat.add_sub_cancel_left]
    exact ⟨by decide, by decide⟩
  · have e : nI a - nI b = -1 := by
      rw [← z, ← nI_1]
      grind
    rw [e]
    exact ⟨by decide, by decide⟩
  · rw [z, pk_sub (by omega), Nat.sub_self]
    exact ⟨by decide, by decide⟩
theorem sx_h33 {post : Int32 → St1 → Prop} {J : Int32 → Int32 → Int32 → Int32 → Int32 → Int32 → (Nat → Int32) → (Nat → Int32) → (Nat → Int32) → (Nat → Int32) → (Nat → Int32) → (Nat → Int32) → (Nat → Int32) → Prop}
    {n i : Nat} {m e f : Int32} {a1 a2 a3 a4 a5 a6 a7 : Nat → Int32} (hI : sx_I n n a1 a2 a3 a4 a5 a6 a7) (hi : i < n)
    (H : ∀ m e f b2 b3 b4 b5 b6 b7, sx_I n n a1 b2 b3 b4 b5 b6 b7 → J (nI (i + 1)) (nI n) (nI n) m e f a1 b2 b3 b4 b5 b6 b7) :
    wL_holds_33 post J (nI n) (nI i) (nI n) (nI n) m e f a1 a2 a3 a4 a5 a6 a7 := by
  have hn := hI.1
  unfold wL_holds_33
  rw [nI_1]
  refine sx_depth hI (by omega) (fun kn' m e f b2 b3 b4 b5 b6 b7 h1 hI' => ?_)
  refine sx_depth hI' (by omega) (fun kn' m e f c2 c3 c4 c5 c6 c7 h1 hI2 => ?_)
  obtain ⟨s1, s2⟩ := sx_stp (sx_dst a1 i)
  refine nm_e ?_
  refine br_f s1 (br_t s2 ?_)
  refine sx_forward hI2 (by omega) (fun r m e f d2 d3 d4 d5 d6 d7 r1 _ hI3 => ?_) (fun j q hj hU m e f d2 d3 d4 d5 d6 d7 hI3 => ?_)
  · exact br_t r1 (nm_e (H m e f d2 d3 d4 d5 d6 d7 hI3))
  · have hq := hU.2.1
    refine br_f (nI_pos (by omega)) (br_f (nI_nlt (by omega) (by omega)) ?_)
    refine sx_backward hI3 hU (fun r h1 h2 m e f b2 b3 b4 b5 b6 b7 hI4 => ?_)
    exact br_t (nI_le (by omega) (by omega)) (nm_e (H m e f b2 b3 b4 b5 b6 b7 hI4))
theorem sx_h7 {post : Int32 → St1 → Prop} {n : Nat} {a1 : Nat → Int32} (hn : n ≤ 64)
    (H : ∀ m e f b2 b3 b4 b5 b6 b7, sx_I n n a1 b2 b3 b4 b5 b6 b7 → post 1 (nI n, nI n, m, e, f, a1, b2, b3, b4, b5, b6, b7)) :
    ∀ (d i kn : Nat) (m e f : Int32) (b2 b3 b4 b5 b6 b7 : Nat → Int32), d + i = n → sx_I n kn a1 b2 b3 b4 b5 b6 b7 → wL_holds_7 post (nI n) (d + 1) (nI i) (nI n) (nI kn) m e f a1 b2 b3 b4 b5 b6 b7 := by
  intro d
  induction d with
  | zero =>
    intro i kn m e f b2 b3 b4 b5 b6 b7 hi hI
    have e1 : i = n := by omega
    subst e1
    refine br_t (nI_le (Nat.le_refl _) (by omega)) ?_
    refine sx_forward hI (Nat.le_refl _) (fun r m e f d2 d3 d4 d5 d6 d7 _ r2 hI3 => ?_) (fun j q hj hU m e f d2 d3 d4 d5 d6 d7 hI3 => ?_)
    · exact br_f r2 (H m e f d2 d3 d4 d5 d6 d7 hI3)
    · have h1 := hU.1
      have h2 := hU.2.1
      omega
  | succ d ih =>
    intro i kn m e f b2 b3 b4 b5 b6 b7 hi hI
    have G : ∀ m e f b2 b3 b4 b5 b6 b7, sx_I n n a1 b2 b3 b4 b5 b6 b7 → wL_holds_33 post (wL_holds_7 post (nI n) (d + 1)) (nI n) (nI i) (nI n) (nI n) m e f a1 b2 b3 b4 b5 b6 b7 :=
      fun m e f b2 b3 b4 b5 b6 b7 hI' => sx_h33 hI' (by omega) (fun m e f b2 b3 b4 b5 b6 b7 hI2 => ih (i + 1) n m e f b2 b3 b4 b5 b6 b7 (by omega) hI2)
    refine br_f (nI_ge (by omega) (by omega)) ?_
    refine sx_partner hI (by omega) (fun m e f c2 c3 c4 c5 c6 c7 r hI' r1 r2 => ?_)
    by_cases g1 : sx_R a1 i = 1
    · have er := r1 (Or.inl g1)
      rcases hI'.2.2.1.2.2.2 i (by omega) g1 with z | ⟨q, t, z1, z2, z3, z4, z5⟩
      · rw [er, z]
        exact br_t (by decide) (G m e f c2 c3 c4 c5 c6 c7 hI')
      · rw [er, z3]
        refine br_f (nI_pos (by omega)) ?_
        refine sx_partner hI' z2 (fun m e f d2 d3 d4 d5 d6 d7 r' hI2 r1' _ => ?_)
        rw [r1' (Or.inr z4), (hI2.2.2.1.2.2.1 q i t z2 z4 z5).1]
        exact br_t rfl (G m e f d2 d3 d4 d5 d6 d7 hI2)
    · by_cases g2 : sx_R a1 i = 2
      · have er := r1 (Or.inr g2)
        rcases sx_triS a1 i with ⟨w, _⟩ | ⟨x, t, _, w, _⟩ | ⟨_, w, _⟩
        · exact absurd w g1
        · obtain ⟨x1, x2, _⟩ := sx_ok a1 i x t w
          rw [er, (hI'.2.2.1.2.2.1 i x t (by omega) g2 w).1]
          refine br_f (nI_pos (by omega)) ?_
          refine sx_partner hI' (show x < n by omega) (fun m e f d2 d3 d4 d5 d6 d7 r' hI2 r1' _ => ?_)
          rw [r1' (Or.inl x2), (hI2.2.2.1.2.2.1 i x t (by omega) g2 w).2]
          exact br_t rfl (G m e f d2 d3 d4 d5 d6 d7 hI2)
        · exact absurd g2 w
      · rw [r2 g1 g2]
        exact br_t (by decide) (G m e f c2 c3 c4 c5 c6 c7 hI')
theorem sx_holds {post : Int32 → St1 → Prop} {n kn : Nat} {m e f : Int32} {a1 a2 a3 a4 a5 a6 a7 : Nat → Int32} (hI : sx_I n kn a1 a2 a3 a4 a5 a6 a7)
    (H : ∀ m e f b2 b3 b4 b5 b6 b7, sx_I n n a1 b2 b3 b4 b5 b6 b7 → post 1 (nI n, nI n, m, e, f, a1, b2, b3, b4, b5, b6, b7)) :
    wpL_holds post (nI n, nI kn, m, e, f, a1, a2, a3, a4, a5, a6, a7) :=
  ⟨n + 1, sx_h7 hI.1 H n 0 kn m e f a2 a3 a4 a5 a6 a7 (by omega) hI⟩
theorem sx_cell {post : Int32 → Prop} {L k : Nat} {xs : Nat → Int32} (hL : L ≤ 260) (hk : k < 2 ^ 31) (H : ∀ v, post v) : wpL_cell post L xs () (nI k) :=
  pk_le L k (fun _ => H _) (fun z => ⟨vp_in_nI z (by omega), H _⟩)
theorem sx_law {L : Nat} {xs : Nat → Int32} {kc ks : Nat} (hL : L ≤ 260) :
    ∀ (d i n kn : Nat) (m e f : Int32) (a1 a2 a3 a4 a5 a6 a7 : Nat → Int32), i ≤ L + 1 → L + 2 ≤ 2 * d + i → sx_I n kn a1 a2 a3 a4 a5 a6 a7 →
      wL_law_10 (fun r => r = 1) L xs kc ks d (nI i) (nI n) (nI kn) m e f a1 a2 a3 a4 a5 a6 a7 := by
  intro d
  induction d with
  | zero => intro i n kn m e f a1 a2 a3 a4 a5 a6 a7 h1 h2; omega
  | succ d ih =>
    intro i n kn m e f a1 a2 a3 a4 a5 a6 a7 h1 h2 hI
    refine pk_le L i (fun _ => rfl) (fun z => ?_)
    refine sx_cell hL (by omega) (fun c => ?_)
    rw [nI_1]
    refine sx_cell hL (by omega) (fun c' => ?_)
    refine sx_turn hI (fun n' kn' b1 b3 hI' => ?_)
    refine sx_holds hI' (fun m e f c2 c3 c4 c5 c6 c7 hI2 => ?_)
    refine br_f sx_10 ?_
    exact nm_r (nI_add i 2) (ih (i + 2) n' n' m e f b1 c2 c3 c4 c5 c6 c7 (by omega) (by omega) hI2)
theorem sx_I0 : sx_I 0 0 (fun _ => 0) (fun _ => 0) (fun _ => 0) (fun _ => 0) (fun _ => 0) (fun _ => 0) (upd (fun _ => 0) 0 (-2)) := by
  refine ⟨by omega, by omega, ⟨fun j hj => absurd hj (by omega), fun j hj => absurd hj (by omega), fun q x r hq => absurd hq (by omega), fun j hj => absurd hj (by omega)⟩, fun k hk => ?_⟩
  have k0 : k = 0 := by omega
  subst k0
  exact ⟨rfl, rfl, rfl⟩
theorem i_vc (xs : Nat → Int32) (L : Nat) (hL : L ≤ 260) : wpL_law (fun r => r = 1) L xs := by
  refine ⟨7, 271, by omega, by omega, ?_⟩
  refine ⟨by omega, by omega, by omega, by omega, by omega, by omega, by omega, by omega, by omega, by omega, by omega, by omega, by omega, by omega, nm_e ?_⟩
  exact ⟨L + 2, sx_law hL (L + 2) 0 0 0 0 0 0 _ _ _ _ _ _ _ (by omega) (by omega) sx_I0⟩
end

section
/-! the pure picture: points drawn together by edges, the polynomial by its first edge; no program in sight -/
/-- edge e drawn together: whatever has become the greater end becomes the smaller one -/
def tu_j (f : Nat → Nat) (e : Nat × Nat) : Nat → Nat := fun p => if f p = max (f e.1) (f e.2) then min (f e.1) (f e.2) else f p
/-- all edges of a list drawn together, the first one first -/
def tu_d : List (Nat × Nat) → (Nat → Nat) → Nat → Nat
  | [], f => f
  | e :: L, f => tu_d L (tu_j f e)
/-- polynomials by their coefficients: times x^a y^b, the sum, 1 -/
def tu_sh (a b : Nat) (t : Nat → Nat → Nat) : Nat → Nat → Nat := fun i j => if a ≤ i ∧ b ≤ j then t (i - a) (j - b) else 0
def tu_ad (t s : Nat → Nat → Nat) : Nat → Nat → Nat := fun i j => t i j + s i j
def tu_one : Nat → Nat → Nat := fun i j => if i = 0 ∧ j = 0 then 1 else 0
/-- the polynomial of the edges L over the points as f has drawn them together, by the first edge -/
def tu_T : List (Nat × Nat) → (Nat → Nat) → Nat → Nat → Nat
  | [], _ => tu_one
  | e :: L, f => if f e.1 = f e.2 then tu_sh 0 1 (tu_T L f) else if tu_d L f e.1 = tu_d L f e.2 then tu_ad (tu_T L f) (tu_T L (tu_j f e)) else tu_sh 1 0 (tu_T L (tu_j f e))
/-- the rank: how many edges join something -/
def tu_r : List (Nat × Nat) → (Nat → Nat) → Nat
  | [], _ => 0
  | e :: L, f => if f e.1 = f e.2 then tu_r L f else tu_r L (tu_j f e) + 1
theorem tu_Tl {e : Nat × Nat} {L : List (Nat × Nat)} {f : Nat → Nat} (h : f e.1 = f e.2) : tu_T (e :: L) f = tu_sh 0 1 (tu_T L f) := if_pos h
theorem tu_To {e : Nat × Nat} {L : List (Nat × Nat)} {f : Nat → Nat} (h : ¬ f e.1 = f e.2) (d : tu_d L f e.1 = tu_d L f e.2) : tu_T (e :: L) f = tu_ad (tu_T L f) (tu_T L (tu_j f e)) := (if_neg h).trans (if_pos d)
theorem tu_Tb {e : Nat × Nat} {L : List (Nat × Nat)} {f : Nat → Nat} (h : ¬ f e.1 = f e.2) (d : ¬ tu_d L f e.1 = tu_d L f e.2) : tu_T (e :: L) f = tu_sh 1 0 (tu_T L (tu_j f e)) := (if_neg h).trans (if_neg d)
theorem tu_rl {e : Nat × Nat} {L : List (Nat × Nat)} {f : Nat → Nat} (h : f e.1 = f e.2) : tu_r (e :: L) f = tu_r L f := if_pos h
theorem tu_rn {e : Nat × Nat} {L : List (Nat × Nat)} {f : Nat → Nat} (h : ¬ f e.1 = f e.2) : tu_r (e :: L) f = tu_r L (tu_j f e) + 1 := if_neg h
/-! polynomials -/
theorem tu_shad (a b : Nat) (t s : Nat → Nat → Nat) : tu_sh a b (tu_ad t s) = tu_ad (tu_sh a b t) (tu_sh a b s) := by
  funext i j
  show (if a ≤ i ∧ b ≤ j then t (i - a) (j - b) + s (i - a) (j - b) else 0) = (if a ≤ i ∧ b ≤ j then t (i - a) (j - b) else 0) + (if a ≤ i ∧ b ≤ j then s (i - a) (j - b) else 0)
  by_cases h : a ≤ i ∧ b ≤ j
  · rw [if_pos h, if_pos h, if_pos h]
  · rw [if_neg h, if_neg h, if_neg h]
theorem tu_shsh (a b c d : Nat) (t : Nat → Nat → Nat) : tu_sh a b (tu_sh c d t) = tu_sh (a + c) (b + d) t := by
  funext i j
  unfold tu_sh
  by_cases h : a + c ≤ i ∧ b + d ≤ j
  · rw [if_pos h, if_pos (show a ≤ i ∧ b ≤ j by omega), if_pos (show c ≤ i - a ∧ d ≤ j - b by omega), Nat.sub_sub, Nat.sub_sub]
  · rw [if_neg h]
    by_cases h2 : a ≤ i ∧ b ≤ j
    · rw [if_pos h2, if_neg (show ¬ (c ≤ i - a ∧ d ≤ j - b) by omega)]
    · rw [if_neg h2]
theorem tu_shc (t : Nat → Nat → Nat) : tu_sh 1 0 (tu_sh 0 1 t) = tu_sh 0 1 (tu_sh 1 0 t) := (tu_shsh 1 0 0 1 t).trans (tu_shsh 0 1 1 0 t).symm
theorem tu_sh0 (t : Nat → Nat → Nat) : tu_sh 0 0 t = t := by
  funext i j
  unfold tu_sh
  rw [if_pos (show 0 ≤ i ∧ 0 ≤ j by omega), Nat.sub_zero, Nat.sub_zero]
theorem tu_adc (a b c d : Nat → Nat → Nat) : tu_ad (tu_ad a b) (tu_ad c d) = tu_ad (tu_ad a c) (tu_ad b d) := by
  funext i j
  show (a i j + b i j) + (c i j + d i j) = (a i j + c i j) + (b i j + d i j)
  omega
/-! what one joined edge makes of two points -/
theorem tu_jk (f : Nat → Nat) (e : Nat × Nat) (a b : Nat) : tu_j f e a = tu_j f e b ↔ f a = f b ∨ (f a = f e.1 ∧ f b = f e.2) ∨ (f a = f e.2 ∧ f b = f e.1) := by
  unfold tu_j
  generalize f a = x
  generalize f b = y
  generalize f e.1 = u
  generalize f e.2 = v
  split <;> split <;> omega
theorem tu_mono {f : Nat → Nat} {e : Nat × Nat} {a b : Nat} (h : f a = f b) : tu_j f e a = tu_j f e b := (tu_jk f e a b).mpr (Or.inl h)
theorem tu_self (f : Nat → Nat) (e : Nat × Nat) : tu_j f e e.1 = tu_j f e e.2 := (tu_jk f e e.1 e.2).mpr (Or.inr (Or.inl ⟨rfl, rfl⟩))
theorem tu_dmono (L : List (Nat × Nat)) : ∀ {f : Nat → Nat} {a b : Nat}, f a = f b → tu_d L f a = tu_d L f b := by
  induction L with
  | nil => intro f a b h; exact h
  | cons e L ih => intro f a b h; exact ih (f := tu_j f e) (tu_mono h)
theorem tu_jl {f : Nat → Nat} {e : Nat × Nat} (h : f e.1 = f e.2) : tu_j f e = f := by
  funext p
  unfold tu_j
  rw [h, Nat.max_self, Nat.min_self]
  split
  · rename_i z
    exact z.symm
  · rfl
theorem tu_univ {f h : Nat → Nat} {e : Nat × Nat} (l : ∀ a b, f a = f b → h a = h b) (c : h e.1 = h e.2) : ∀ a b, tu_j f e a = tu_j f e b → h a = h b := by
  intro a b z
  rcases (tu_jk f e a b).mp z with z | ⟨z1, z2⟩ | ⟨z1, z2⟩
  · exact l a b z
  · rw [l _ _ z1, l _ _ z2, c]
  · rw [l _ _ z1, l _ _ z2, c]
theorem tu_comm1 (f : Nat → Nat) (e g : Nat × Nat) : ∀ a b, tu_j (tu_j f e) g a = tu_j (tu_j f e) g b → tu_j (tu_j f g) e a = tu_j (tu_j f g) e b :=
  tu_univ (tu_univ (fun _ _ z => tu_mono (tu_mono z)) (tu_self _ e)) (tu_mono (tu_self f g))
theorem tu_comm (f : Nat → Nat) (e g : Nat × Nat) (a b : Nat) : tu_j (tu_j f e) g a = tu_j (tu_j f e) g b ↔ tu_j (tu_j f g) e a = tu_j (tu_j f g) e b := ⟨tu_comm1 f e g a b, tu_comm1 f g e a b⟩
theorem tu_x {f : Nat → Nat} {e g : Nat × Nat} (n : ¬ f g.1 = f g.2) (h : tu_j f e g.1 = tu_j f e g.2) : tu_j f g e.1 = tu_j f g e.2 := by
  rcases (tu_jk f e g.1 g.2).mp h with z | ⟨z1, z2⟩ | ⟨z1, z2⟩
  · exact absurd z n
  · exact (tu_jk f g e.1 e.2).mpr (Or.inr (Or.inl ⟨z1.symm, z2.symm⟩))
  · exact (tu_jk f g e.1 e.2).mpr (Or.inr (Or.inr ⟨z2.symm, z1.symm⟩))
theorem tu_par {f : Nat → Nat} {e g : Nat × Nat} (n : ¬ f g.1 = f g.2) (h : tu_j f e g.1 = tu_j f e g.2) (a b : Nat) : tu_j f e a = tu_j f e b ↔ tu_j f g a = tu_j f g b :=
  ⟨tu_univ (fun _ _ z => tu_mono z) (tu_x n h) a b, tu_univ (fun _ _ z => tu_mono z) h a b⟩
/-! two pictures that tell the same points apart: the same polynomial, the same rank -/
def tu_R (P : Nat → Prop) (s f g : Nat → Nat) : Prop := ∀ a b, P a → P b → (f a = f b ↔ g (s a) = g (s b))
def tu_in (P : Nat → Prop) (L : List (Nat × Nat)) : Prop := ∀ e, e ∈ L → P e.1 ∧ P e.2
def tu_m (s : Nat → Nat) (e : Nat × Nat) : Nat × Nat := (s e.1, s e.2)
theorem tu_inh {P : Nat → Prop} {e : Nat × Nat} {L : List (Nat × Nat)} (h : tu_in P (e :: L)) : P e.1 ∧ P e.2 := h e (List.mem_cons_self ..)
theorem tu_int {P : Nat → Prop} {e : Nat × Nat} {L : List (Nat × Nat)} (h : tu_in P (e :: L)) : tu_in P L := fun x hx => h x (List.mem_cons_of_mem _ hx)
theorem tu_Rj {P : Nat → Prop} {s f g : Nat → Nat} {e : Nat × Nat} (h : tu_R P s f g) (h1 : P e.1) (h2 : P e.2) : tu_R P s (tu_j f e) (tu_j g (tu_m s e)) := by
  intro a b ha hb
  rw [tu_jk, tu_jk]
  show _ ↔ (g (s a) = g (s b) ∨ (g (s a) = g (s e.1) ∧ g (s b) = g (s e.2)) ∨ (g (s a) = g (s e.2) ∧ g (s b) = g (s e.1)))
  rw [h a b ha hb, h a e.1 ha h1, h b e.2 hb h2, h a e.2 ha h2, h b e.1 hb h1]
theorem tu_Rd {P : Nat → Prop} {s : Nat → Nat} (L : List (Nat × Nat)) : ∀ {f g : Nat → Nat}, tu_in P L → tu_R P s f g → tu_R P s (tu_d L f) (tu_d (L.map (tu_m s)) g) := by
  induction L with
  | nil => intro f g _ h; exact h
  | cons e L ih => intro f g hL h; exact ih (tu_int hL) (tu_Rj h (tu_inh hL).1 (tu_inh hL).2)
theorem tu_RT {P : Nat → Prop} {s : Nat → Nat} (L : List (Nat × Nat)) : ∀ {f g : Nat → Nat}, tu_in P L → tu_R P s f g → tu_T L f = tu_T (L.map (tu_m s)) g := by
  induction L with
  | nil => intro f g _ _; rfl
  | cons e L ih =>
    intro f g hL h
    have hc : f e.1 = f e.2 ↔ g (tu_m s e).1 = g (tu_m s e).2 := h e.1 e.2 (tu_inh hL).1 (tu_inh hL).2
    have hd : tu_d L f e.1 = tu_d L f e.2 ↔ tu_d (L.map (tu_m s)) g (tu_m s e).1 = tu_d (L.map (tu_m s)) g (tu_m s e).2 := tu_Rd L (tu_int hL) h e.1 e.2 (tu_inh hL).1 (tu_inh hL).2
    have i1 := ih (tu_int hL) h
    have i2 := ih (tu_int hL) (tu_Rj h (tu_inh hL).1 (tu_inh hL).2)
    rw [List.map_cons]
    by_cases c : f e.1 = f e.2
    · rw [tu_Tl c, tu_Tl (hc.mp c), i1]
    · have c' := fun z => c (hc.mpr z)
      by_cases d : tu_d L f e.1 = tu_d L f e.2
      · rw [tu_To c d, tu_To c' (hd.mp d), i1, i2]
      · rw [tu_Tb c d, tu_Tb c' (fun z => d (hd.mpr z)), i2]
theorem tu_Rr {P : Nat → Prop} {s : Nat → Nat} (L : List (Nat × Nat)) : ∀ {f g : Nat → Nat}, tu_in P L → tu_R P s f g → tu_r L f = tu_r (L.map (tu_m s)) g := by
  induction L with
  | nil => intro f g _ _; rfl
  | cons e L ih =>
    intro f g hL h
    have hc : f e.1 = f e.2 ↔ g (tu_m s e).1 = g (tu_m s e).2 := h e.1 e.2 (tu_inh hL).1 (tu_inh hL).2
    rw [List.map_cons]
    by_cases c : f e.1 = f e.2
    · rw [tu_rl c, tu_rl (hc.mp c), ih (tu_int hL) h]
    · rw [tu_rn c, tu_rn (fun z => c (hc.mpr z)), ih (tu_int hL) (tu_Rj h (tu_inh hL).1 (tu_inh hL).2)]
theorem tu_mid (L : List (Nat × Nat)) : L.map (tu_m id) = L := List.map_id'' (fun _ => rfl) L
theorem tu_RTi {P : Nat → Prop} {L : List (Nat × Nat)} {f g : Nat → Nat} (hL : tu_in P L) (h : ∀ a b, P a → P b → (f a = f b ↔ g a = g b)) : tu_T L f = tu_T L g := by
  have t := tu_RT (P := P) (s := id) (f := f) (g := g) L hL h
  rw [tu_mid] at t
  exact t
theorem tu_Rri {P : Nat → Prop} {L : List (Nat × Nat)} {f g : Nat → Nat} (hL : tu_in P L) (h : ∀ a b, P a → P b → (f a = f b ↔ g a = g b)) : tu_r L f = tu_r L g := by
  have t := tu_Rr (P := P) (s := id) (f := f) (g := g) L hL h
  rw [tu_mid] at t
  exact t
theorem tu_KT {f g : Nat → Nat} (h : ∀ a b, f a = f b ↔ g a = g b) (L : List (Nat × Nat)) : tu_T L f = tu_T L g :=
  tu_RTi (P := fun _ => True) (fun _ _ => ⟨trivial, trivial⟩) (fun a b _ _ => h a b)
theorem tu_Kr {f g : Nat → Nat} (h : ∀ a b, f a = f b ↔ g a = g b) (L : List (Nat × Nat)) : tu_r L f = tu_r L g :=
  tu_Rri (P := fun _ => True) (fun _ _ => ⟨trivial, trivial⟩) (fun a b _ _ => h a b)
theorem tu_Kd {f g : Nat → Nat} (h : ∀ a b, f a = f b ↔ g a = g b) (L : List (Nat × Nat)) (a b : Nat) : tu_d L f a = tu_d L f b ↔ tu_d L g a = tu_d L g b := by
  have t := tu_Rd (P := fun _ => True) (s := id) (f := f) (g := g) L (fun _ _ => ⟨trivial, trivial⟩) (fun a b _ _ => h a b) a b trivial trivial
  rw [tu_mid] at t
  exact t
theorem tu_dj (L : List (Nat × Nat)) : ∀ (f : Nat → Nat) (e : Nat × Nat) (a b : Nat), tu_d L (tu_j f e) a = tu_d L (tu_j f e) b ↔ tu_j (tu_d L f) e a = tu_j (tu_d L f) e b := by
  induction L with
  | nil => intro f e a b; exact Iff.rfl
  | cons g L ih => intro f e a b; exact (tu_Kd (tu_comm f e g) L a b).trans (ih (tu_j f g) e a b)
theorem tu_dapp (L : List (Nat × Nat)) (e : Nat × Nat) : ∀ f : Nat → Nat, tu_d (L ++ [e]) f = tu_j (tu_d L f) e := by
  induction L with
  | nil => intro f; rfl
  | cons g L ih => intro f; exact ih (tu_j f g)
/-- the orientation of the edges doesn't matter -/
def tu_sw (e : Nat × Nat) : Nat × Nat := (e.2, e.1)
theorem tu_jsw (f : Nat → Nat) (e : Nat × Nat) : tu_j f (tu_sw e) = tu_j f e := by
  funext p
  show (if f p = max (f e.2) (f e.1) then min (f e.2) (f e.1) else f p) = if f p = max (f e.1) (f e.2) then min (f e.1) (f e.2) else f p
  rw [Nat.max_comm, Nat.min_comm]
theorem tu_dsw (L : List (Nat × Nat)) : ∀ f : Nat → Nat, tu_d (L.map tu_sw) f = tu_d L f := by
  induction L with
  | nil => intro f; rfl
  | cons e L ih =>
    intro f
    show tu_d (L.map tu_sw) (tu_j f (tu_sw e)) = tu_d L (tu_j f e)
    rw [tu_jsw, ih]
theorem tu_Tsw (L : List (Nat × Nat)) : ∀ f : Nat → Nat, tu_T (L.map tu_sw) f = tu_T L f := by
  induction L with
  | nil => intro f; rfl
  | cons e L ih =>
    intro f
    rw [List.map_cons]
    by_cases c : f e.1 = f e.2
    · rw [tu_Tl c, tu_Tl (e := tu_sw e) c.symm, ih]
    · have c' : ¬ f (tu_sw e).1 = f (tu_sw e).2 := fun z => c z.symm
      by_cases d : tu_d L f e.1 = tu_d L f e.2
      · have d' : tu_d (L.map tu_sw) f (tu_sw e).1 = tu_d (L.map tu_sw) f (tu_sw e).2 := by rw [tu_dsw]; exact d.symm
        rw [tu_To c d, tu_To c' d', tu_jsw, ih, ih]
      · have d' : ¬ tu_d (L.map tu_sw) f (tu_sw e).1 = tu_d (L.map tu_sw) f (tu_sw e).2 := by rw [tu_dsw]; exact fun z => d z.symm
        rw [tu_Tb c d, tu_Tb c' d', tu_jsw, ih]
theorem tu_rsw (L : List (Nat × Nat)) : ∀ f : Nat → Nat, tu_r (L.map tu_sw) f = tu_r L f := by
  induction L with
  | nil => intro f; rfl
  | cons e L ih =>
    intro f
    rw [List.map_cons]
    by_cases c : f e.1 = f e.2
    · rw [tu_rl c, tu_rl (e := tu_sw e) c.symm, ih]
    · have c' : ¬ f (tu_sw e).1 = f (tu_sw e).2 := fun z => c z.symm
      rw [tu_rn c, tu_rn c', tu_jsw, ih]
/-! an edge that the others don't join: to join it first changes nothing -/
theorem tu_B (e : Nat × Nat) : ∀ (L : List (Nat × Nat)) (f : Nat → Nat), ¬ tu_d L f e.1 = tu_d L f e.2 → tu_T L (tu_j f e) = tu_T L f := by
  intro L
  induction L with
  | nil => intro f _; rfl
  | cons g L ih =>
    intro f h
    have h' : ¬ tu_d L (tu_j f g) e.1 = tu_d L (tu_j f g) e.2 := h
    have hf : ¬ tu_d L f e.1 = tu_d L f e.2 := fun z => h' ((tu_dj L f g e.1 e.2).mpr (tu_mono z))
    by_cases c : f g.1 = f g.2
    · rw [tu_Tl (tu_mono c), tu_Tl c, ih f hf]
    · have c' : ¬ tu_j f e g.1 = tu_j f e g.2 := fun z => h' (tu_dmono L (tu_x c z))
      by_cases d : tu_d L f g.1 = tu_d L f g.2
      · have d' : tu_d L (tu_j f e) g.1 = tu_d L (tu_j f e) g.2 := (tu_dj L f e g.1 g.2).mpr (tu_mono d)
        rw [tu_To c' d', tu_To c d, ih f hf, tu_KT (tu_comm f e g) L, ih (tu_j f g) h']
      · have d' : ¬ tu_d L (tu_j f e) g.1 = tu_d L (tu_j f e) g.2 := fun z => h' ((tu_dj L f g e.1 e.2).mpr (tu_x d ((tu_dj L f e g.1 g.2).mp z)))
        rw [tu_Tb c' d', tu_Tb c d, tu_KT (tu_comm f e g) L, ih (tu_j f g) h']
/-! the same law by the LAST edge -/
theorem tu_M (e : Nat × Nat) : ∀ (L : List (Nat × Nat)) (f : Nat → Nat),
    (f e.1 = f e.2 → tu_T (L ++ [e]) f = tu_sh 0 1 (tu_T L f)) ∧
    (¬ f e.1 = f e.2 → tu_d L f e.1 = tu_d L f e.2 → tu_T (L ++ [e]) f = tu_ad (tu_T L f) (tu_T L (tu_j f e))) ∧
    (¬ f e.1 = f e.2 → ¬ tu_d L f e.1 = tu_d L f e.2 → tu_T (L ++ [e]) f = tu_sh 1 0 (tu_T L (tu_j f e))) := by
  intro L
  induction L with
  | nil => intro f; exact ⟨fun h => tu_Tl h, fun h d => tu_To h d, fun h d => tu_Tb h d⟩
  | cons g L ih =>
    intro f
    refine ⟨fun he => ?_, fun he hd => ?_, fun he hb => ?_⟩
    · show tu_T (g :: (L ++ [e])) f = _
      by_cases c : f g.1 = f g.2
      · rw [tu_Tl c, (ih f).1 he, tu_Tl c]
      · have hge : tu_j f g e.1 = tu_j f g e.2 := tu_mono he
        by_cases d : tu_d L f g.1 = tu_d L f g.2
        · have d' : tu_d (L ++ [e]) f g.1 = tu_d (L ++ [e]) f g.2 := by rw [tu_dapp]; exact tu_mono d
          rw [tu_To c d', (ih f).1 he, (ih (tu_j f g)).1 hge, tu_To c d, tu_shad]
        · have d' : ¬ tu_d (L ++ [e]) f g.1 = tu_d (L ++ [e]) f g.2 := by rw [tu_dapp, tu_jl (tu_dmono L he)]; exact d
          rw [tu_Tb c d', (ih (tu_j f g)).1 hge, tu_Tb c d, tu_shc]
    · show tu_T (g :: (L ++ [e])) f = _
      have hd1 : tu_d L (tu_j f g) e.1 = tu_d L (tu_j f g) e.2 := hd
      by_cases c : f g.1 = f g.2
      · rw [tu_jl c] at hd1
        rw [tu_Tl c, (ih f).2.1 he hd1, tu_Tl c, tu_Tl (tu_mono c), tu_shad]
      · by_cases d' : tu_d (L ++ [e]) f g.1 = tu_d (L ++ [e]) f g.2
        · have dFe : tu_j (tu_d L f) e g.1 = tu_j (tu_d L f) e g.2 := by
            have t := d'
            rw [tu_dapp] at t
            exact t
          have dFg : tu_j (tu_d L f) g e.1 = tu_j (tu_d L f) g e.2 := (tu_dj L f g _ _).mp hd1
          have dE : tu_d L (tu_j f e) g.1 = tu_d L (tu_j f e) g.2 := (tu_dj L f e _ _).mpr dFe
          have qq : tu_d L f e.1 = tu_d L f e.2 → tu_d L f g.1 = tu_d L f g.2 := by
            intro q
            have t := dFe
            rw [tu_jl q] at t
            exact t
          have qn : ¬ tu_d L f e.1 = tu_d L f e.2 → ¬ tu_d L f g.1 = tu_d L f g.2 := by
            intro q z
            have t := dFg
            rw [tu_jl z] at t
            exact q t
          rw [tu_To c d']
          by_cases p : tu_j f g e.1 = tu_j f g e.2
          · have p' : tu_j f e g.1 = tu_j f e g.2 := tu_x he p
            have k := tu_KT (tu_par c p') L
            rw [(ih (tu_j f g)).1 p, tu_Tl p']
            by_cases q : tu_d L f e.1 = tu_d L f e.2
            · rw [(ih f).2.1 he q, tu_To c (qq q), k]
            · rw [(ih f).2.2 he q, tu_Tb c (qn q), k]
          · have p' : ¬ tu_j f e g.1 = tu_j f e g.2 := fun z => p (tu_x c z)
            have k := tu_KT (tu_comm f e g) L
            rw [(ih (tu_j f g)).2.1 p hd1, tu_To p' dE]
            by_cases q : tu_d L f e.1 = tu_d L f e.2
            · rw [(ih f).2.1 he q, tu_To c (qq q), k]
              exact tu_adc _ _ _ _
            · rw [(ih f).2.2 he q, tu_Tb c (qn q), k, tu_B e L f q, tu_B g L f (qn q)]
        · have nFe : ¬ tu_j (tu_d L f) e g.1 = tu_j (tu_d L f) e g.2 := by
            have t := d'
            rw [tu_dapp] at t
            exact t
          have nF : ¬ tu_d L f g.1 = tu_d L f g.2 := fun z => nFe (tu_mono z)
          have p' : ¬ tu_j f e g.1 = tu_j f e g.2 := fun z => nFe ((tu_dj L f e _ _).mp (tu_dmono L z))
          have p : ¬ tu_j f g e.1 = tu_j f g e.2 := fun z => p' (tu_x he z)
          have nE : ¬ tu_d L (tu_j f e) g.1 = tu_d L (tu_j f e) g.2 := fun z => nFe ((tu_dj L f e _ _).mp z)
          rw [tu_Tb c d', (ih (tu_j f g)).2.1 p hd1, tu_Tb c nF, tu_Tb p' nE, tu_KT (tu_comm f e g) L, tu_shad]
    · show tu_T (g :: (L ++ [e])) f = _
      have hb1 : ¬ tu_d L (tu_j f g) e.1 = tu_d L (tu_j f g) e.2 := hb
      by_cases c : f g.1 = f g.2
      · rw [tu_jl c] at hb1
        rw [tu_Tl c, (ih f).2.2 he hb1, tu_Tl (tu_mono c), tu_shc]
      · have p : ¬ tu_j f g e.1 = tu_j f g e.2 := fun z => hb1 (tu_dmono L z)
        have p' : ¬ tu_j f e g.1 = tu_j f e g.2 := fun z => p (tu_x c z)
        have nFg : ¬ tu_j (tu_d L f) g e.1 = tu_j (tu_d L f) g e.2 := fun z => hb1 ((tu_dj L f g _ _).mpr z)
        have nF : ¬ tu_d L f e.1 = tu_d L f e.2 := fun z => nFg (tu_mono z)
        by_cases d' : tu_d (L ++ [e]) f g.1 = tu_d (L ++ [e]) f g.2
        · have dFe : tu_j (tu_d L f) e g.1 = tu_j (tu_d L f) e g.2 := by
            have t := d'
            rw [tu_dapp] at t
            exact t
          have dE : tu_d L (tu_j f e) g.1 = tu_d L (tu_j f e) g.2 := (tu_dj L f e _ _).mpr dFe
          rw [tu_To c d', (ih f).2.2 he nF, (ih (tu_j f g)).2.2 p hb1, tu_To p' dE, tu_KT (tu_comm f e g) L, tu_shad]
        · have nFe : ¬ tu_j (tu_d L f) e g.1 = tu_j (tu_d L f) e g.2 := by
            have t := d'
            rw [tu_dapp] at t
            exact t
          have nE : ¬ tu_d L (tu_j f e) g.1 = tu_d L (tu_j f e) g.2 := fun z => nFe ((tu_dj L f e _ _).mp z)
          rw [tu_Tb c d', (ih (tu_j f g)).2.2 p hb1, tu_Tb p' nE, tu_KT (tu_comm f e g) L]
/-! the rank by the last edge, in two ways -/
theorem tu_rM (e : Nat × Nat) : ∀ (L : List (Nat × Nat)) (f : Nat → Nat), (f e.1 = f e.2 → tu_r (L ++ [e]) f = tu_r L f) ∧ (¬ f e.1 = f e.2 → tu_r (L ++ [e]) f = tu_r L (tu_j f e) + 1) := by
  intro L
  induction L with
  | nil => intro f; exact ⟨fun h => tu_rl h, fun h => tu_rn h⟩
  | cons g L ih =>
    intro f
    refine ⟨fun he => ?_, fun he => ?_⟩
    · show tu_r (g :: (L ++ [e])) f = _
      by_cases c : f g.1 = f g.2
      · rw [tu_rl c, tu_rl c, (ih f).1 he]
      · rw [tu_rn c, tu_rn c, (ih (tu_j f g)).1 (tu_mono he)]
    · show tu_r (g :: (L ++ [e])) f = _
      by_cases c : f g.1 = f g.2
      · rw [tu_rl c, tu_rl (tu_mono c), (ih f).2 he]
      · rw [tu_rn c]
        by_cases p : tu_j f g e.1 = tu_j f g e.2
        · have p' : tu_j f e g.1 = tu_j f e g.2 := tu_x he p
          rw [(ih (tu_j f g)).1 p, tu_rl p', tu_Kr (tu_par c p') L]
        · have p' : ¬ tu_j f e g.1 = tu_j f e g.2 := fun z => p (tu_x c z)
          rw [(ih (tu_j f g)).2 p, tu_rn p', tu_Kr (tu_comm f e g) L]
theorem tu_rD (e : Nat × Nat) : ∀ (L : List (Nat × Nat)) (f : Nat → Nat), (tu_d L f e.1 = tu_d L f e.2 → tu_r (L ++ [e]) f = tu_r L f) ∧ (¬ tu_d L f e.1 = tu_d L f e.2 → tu_r (L ++ [e]) f = tu_r L f + 1) := by
  intro L
  induction L with
  | nil => intro f; exact ⟨fun h => tu_rl h, fun h => tu_rn h⟩
  | cons g L ih =>
    intro f
    refine ⟨fun h => ?_, fun h => ?_⟩
    · show tu_r (g :: (L ++ [e])) f = _
      have h1 : tu_d L (tu_j f g) e.1 = tu_d L (tu_j f g) e.2 := h
      by_cases c : f g.1 = f g.2
      · rw [tu_jl c] at h1
        rw [tu_rl c, tu_rl c, (ih f).1 h1]
      · rw [tu_rn c, tu_rn c, (ih (tu_j f g)).1 h1]
    · show tu_r (g :: (L ++ [e])) f = _
      have h1 : ¬ tu_d L (tu_j f g) e.1 = tu_d L (tu_j f g) e.2 := h
      by_cases c : f g.1 = f g.2
      · rw [tu_jl c] at h1
        rw [tu_rl c, tu_rl c, (ih f).2 h1]
      · rw [tu_rn c, tu_rn c, (ih (tu_j f g)).2 h1]
theorem tu_rle (L : List (Nat × Nat)) : ∀ f : Nat → Nat, tu_r L f ≤ L.length := by
  induction L with
  | nil => intro f; exact Nat.le_refl 0
  | cons g L ih =>
    intro f
    rw [List.length_cons]
    by_cases c : f g.1 = f g.2
    · rw [tu_rl c]
      have := ih f
      omega
    · rw [tu_rn c]
      have := ih (tu_j f g)
      omega
/-! the parts: points that stayed themselves; their number and the rank make up the points -/
def tu_n : Nat → (Nat → Nat) → Nat
  | 0, _ => 0
  | n + 1, f => tu_n n f + if f n = n then 1 else 0
def tu_g (n : Nat) (f : Nat → Nat) : Prop := ∀ p, p < n → f p < n ∧ f (f p) = f p
theorem tu_ncg {f g : Nat → Nat} : ∀ n, (∀ p, p < n → f p = g p) → tu_n n f = tu_n n g := by
  intro n
  induction n with
  | zero => intro _; rfl
  | succ n ih =>
    intro h
    show tu_n n f + (if f n = n then 1 else 0) = tu_n n g + (if g n = n then 1 else 0)
    rw [ih (fun p hp => h p (by omega)), h n (by omega)]
theorem tu_nid : ∀ n, tu_n n id = n := by
  intro n
  induction n with
  | zero => rfl
  | succ n ih =>
    show tu_n n id + (if id n = n then 1 else 0) = n + 1
    rw [ih, if_pos (show id n = n from rfl)]
theorem tu_nsame {f g : Nat → Nat} : ∀ n, (∀ p, p < n → (f p = p ↔ g p = p)) → tu_n n f = tu_n n g := by
  intro n
  induction n with
  | zero => intro _; rfl
  | succ n ih =>
    intro h
    show tu_n n f + (if f n = n then 1 else 0) = tu_n n g + (if g n = n then 1 else 0)
    rw [ih (fun p hp => h p (by omega))]
    by_cases c : f n = n
    · rw [if_pos c, if_pos ((h n (by omega)).mp c)]
    · rw [if_neg c, if_neg (fun z => c ((h n (by omega)).mpr z))]
theorem tu_none {f g : Nat → Nat} {M : Nat} (h1 : f M = M) (h2 : ¬ g M = M) : ∀ n, M < n → (∀ p, p < n → p ≠ M → (f p = p ↔ g p = p)) → tu_n n g + 1 = tu_n n f := by
  intro n
  induction n with
  | zero => intro h _; omega
  | succ n ih =>
    intro hM h
    show tu_n n g + (if g n = n then 1 else 0) + 1 = tu_n n f + (if f n = n then 1 else 0)
    by_cases e : M = n
    · rw [tu_nsame (f := g) (g := f) n (fun p hp => (h p (by omega) (by omega)).symm)]
      rw [e] at h1 h2
      rw [if_pos h1, if_neg h2]
    · have t := ih (by omega) (fun p hp => h p (by omega))
      have hn := h n (by omega) (fun z => e z.symm)
      by_cases c : f n = n
      · rw [if_pos c, if_pos (hn.mp c)]
        omega
      · rw [if_neg c, if_neg (fun z => c (hn.mpr z))]
        omega
theorem tu_gj {n : Nat} {f : Nat → Nat} {e : Nat × Nat} (h : tu_g n f) (h1 : e.1 < n) (h2 : e.2 < n) : tu_g n (tu_j f e) := by
  intro p hp
  have a := h p hp
  have b := h e.1 h1
  have c := h e.2 h2
  unfold tu_j
  rcases Nat.le_total (f e.1) (f e.2) with z | z
  · rw [Nat.max_eq_right z, Nat.min_eq_left z]
    by_cases k : f p = f e.2
    · rw [if_pos k]
      refine ⟨b.1, ?_⟩
      rw [b.2]
      split <;> rfl
    · rw [if_neg k]
      refine ⟨a.1, ?_⟩
      rw [a.2, if_neg k]
  · rw [Nat.max_eq_left z, Nat.min_eq_right z]
    by_cases k : f p = f e.1
    · rw [if_pos k]
      refine ⟨c.1, ?_⟩
      rw [c.2]
      split <;> rfl
    · rw [if_neg k]
      refine ⟨a.1, ?_⟩
      rw [a.2, if_neg k]
theorem tu_nj {n : Nat} {f : Nat → Nat} {e : Nat × Nat} (h : tu_g n f) (h1 : e.1 < n) (h2 : e.2 < n) (hc : ¬ f e.1 = f e.2) : tu_n n (tu_j f e) + 1 = tu_n n f := by
  have b := h e.1 h1
  have c := h e.2 h2
  have key : ∀ M m, M < n → f M = M → f m = m → M ≠ m → (∀ p, tu_j f e p = if f p = M then m else f p) → tu_n n (tu_j f e) + 1 = tu_n n f := by
    intro M m hM fM fm ne hj
    refine tu_none (M := M) fM (by rw [hj, if_pos fM]; exact fun z => ne z.symm) n hM (fun p hp hpM => ?_)
    rw [hj]
    by_cases k : f p = M
    · rw [if_pos k]
      constructor
      · intro z
        rw [z] at k
        exact absurd k hpM
      · intro z
        rw [z] at fm
        rw [fm] at k
        exact absurd k hpM
    · rw [if_neg k]
  rcases Nat.le_total (f e.1) (f e.2) with z | z
  · refine key (f e.2) (f e.1) c.1 c.2 b.2 (fun w => hc w.symm) (fun p => ?_)
    unfold tu_j
    rw [Nat.max_eq_right z, Nat.min_eq_left z]
  · refine key (f e.1) (f e.2) b.1 b.2 c.2 hc (fun p => ?_)
    unfold tu_j
    rw [Nat.max_eq_left z, Nat.min_eq_right z]
theorem tu_nd {n : Nat} (L : List (Nat × Nat)) : ∀ {f : Nat → Nat}, tu_in (fun p => p < n) L → tu_g n f → tu_n n (tu_d L f) + tu_r L f = tu_n n f := by
  induction L with
  | nil => intro f _ _; rfl
  | cons e L ih =>
    intro f hL h
    have he := tu_inh hL
    show tu_n n (tu_d L (tu_j f e)) + tu_r (e :: L) f = tu_n n f
    have t := ih (tu_int hL) (tu_gj h he.1 he.2)
    by_cases c : f e.1 = f e.2
    · rw [tu_rl c]
      rw [tu_jl c] at t ⊢
      exact t
    · rw [tu_rn c]
      have t2 := tu_nj h he.1 he.2 c
      omega
theorem tu_parts {n : Nat} {L : List (Nat × Nat)} (hL : tu_in (fun p => p < n) L) : tu_n n (tu_d L id) + tu_r L id = n := by
  rw [tu_nd (f := id) L hL (fun p hp => ⟨hp, rfl⟩), tu_nid]
/-! values below n alone matter -/
theorem tu_dcg {n : Nat} (L : List (Nat × Nat)) : ∀ {f g : Nat → Nat}, tu_in (fun p => p < n) L → (∀ p, p < n → f p = g p) → ∀ p, p < n → tu_d L f p = tu_d L g p := by
  induction L with
  | nil => intro f g _ h; exact h
  | cons e L ih =>
    intro f g hL h
    have he := tu_inh hL
    refine ih (tu_int hL) (fun p hp => ?_)
    unfold tu_j
    rw [h p hp, h _ he.1, h _ he.2]
theorem tu_Tcg {n : Nat} {L : List (Nat × Nat)} {f g : Nat → Nat} (hL : tu_in (fun p => p < n) L) (h : ∀ p, p < n → f p = g p) : tu_T L f = tu_T L g :=
  tu_RTi hL (fun a b ha hb => by rw [h a ha, h b hb])
/-! degrees -/
theorem tu_deg (L : List (Nat × Nat)) : ∀ (f : Nat → Nat) (i j : Nat), L.length < i + j → tu_T L f i j = 0 := by
  induction L with
  | nil =>
    intro f i j h
    exact if_neg (by rw [List.length_nil] at h; omega)
  | cons e L ih =>
    intro f i j h
    rw [List.length_cons] at h
    by_cases c : f e.1 = f e.2
    · rw [tu_Tl c]
      unfold tu_sh
      split
      · exact ih f _ _ (by omega)
      · rfl
    · by_cases d : tu_d L f e.1 = tu_d L f e.2
      · rw [tu_To c d]
        unfold tu_ad
        rw [ih f i j (by omega), ih _ i j (by omega)]
      · rw [tu_Tb c d]
        unfold tu_sh
        split
        · exact ih _ _ _ (by omega)
        · rfl
end
section
/-! values of a polynomial as ints, and the laws that the split checks, by number alone -/
def tu_sm (g : Nat → Int32) : Nat → Int32
  | 0 => 0
  | k + 1 => tu_sm g k + g k
def tu_pw (x : Int32) : Nat → Int32
  | 0 => 1
  | k + 1 => tu_pw x k * x
def tu_row (t : Nat → Nat → Nat) (x y : Int32) (i : Nat) : Nat → Int32 := fun j => nI (t i j) * (tu_pw x i * tu_pw y j)
def tu_rows (t : Nat → Nat → Nat) (x y : Int32) : Nat → Int32 := fun i => tu_sm (tu_row t x y i) 9
def tu_ev (t : Nat → Nat → Nat) (x y : Int32) : Int32 := tu_sm (tu_rows t x y) 9
theorem tu_sm_add {g h k : Nat → Int32} (n : Nat) (e : ∀ i, k i = g i + h i) : tu_sm k n = tu_sm g n + tu_sm h n := by
  induction n with
  | zero => show (0 : Int32) = 0 + 0; decide
  | succ n ih =>
    show tu_sm k n + k n = (tu_sm g n + g n) + (tu_sm h n + h n)
    rw [ih, e]
    grind
theorem tu_sm_mul {g k : Nat → Int32} (c : Int32) (n : Nat) (e : ∀ i, k i = c * g i) : tu_sm k n = c * tu_sm g n := by
  induction n with
  | zero => show (0 : Int32) = c * 0; grind
  | succ n ih =>
    show tu_sm k n + k n = c * (tu_sm g n + g n)
    rw [ih, e]
    grind
theorem tu_sm_0 {k : Nat → Int32} (n : Nat) (e : ∀ i, i < n → k i = 0) : tu_sm k n = 0 := by
  induction n with
  | zero => rfl
  | succ n ih =>
    show tu_sm k n + k n = 0
    rw [ih (fun i hi => e i (by omega)), e n (by omega)]
    decide
theorem tu_sm_cut {k : Nat → Int32} (n : Nat) (e : k 0 = 0) : tu_sm k (n + 1) = tu_sm (fun i => k (i + 1)) n := by
  induction n with
  | zero =>
    show (0 : Int32) + k 0 = 0
    rw [e]
    decide
  | succ n ih =>
    show tu_sm k (n + 1) + k (n + 1) = tu_sm (fun i => k (i + 1)) n + k (n + 1)
    rw [ih]
theorem tu_ev_ad (t s : Nat → Nat → Nat) (x y : Int32) : tu_ev (tu_ad t s) x y = tu_ev t x y + tu_ev s x y := by
  refine tu_sm_add 9 (fun i => tu_sm_add 9 (fun j => ?_))
  show nI (t i j + s i j) * (tu_pw x i * tu_pw y j) = nI (t i j) * (tu_pw x i * tu_pw y j) + nI (s i j) * (tu_pw x i * tu_pw y j)
  rw [← nI_add]
  grind
theorem tu_ev_x {t : Nat → Nat → Nat} (x y : Int32) (h : ∀ j, j < 9 → t 8 j = 0) : tu_ev (tu_sh 1 0 t) x y = x * tu_ev t x y := by
  have h0 : tu_rows (tu_sh 1 0 t) x y 0 = 0 := tu_sm_0 9 (fun j _ => by
    show nI (tu_sh 1 0 t 0 j) * _ = 0
    rw [show tu_sh 1 0 t 0 j = 0 from if_neg (by omega), nI_0]
    grind)
  have h8 : tu_rows t x y 8 = 0 := tu_sm_0 9 (fun j hj => by
    show nI (t 8 j) * _ = 0
    rw [h j hj, nI_0]
    grind)
  have hs : ∀ i, tu_rows (tu_sh 1 0 t) x y (i + 1) = x * tu_rows t x y i := fun i => tu_sm_mul x 9 (fun j => by
    show nI (tu_sh 1 0 t (i + 1) j) * (tu_pw x i * x * tu_pw y j) = x * (nI (t i j) * (tu_pw x i * tu_pw y j))
    rw [show tu_sh 1 0 t (i + 1) j = t i j from if_pos (by omega)]
    grind)
  show tu_sm (tu_rows (tu_sh 1 0 t) x y) (8 + 1) = x * (tu_sm (tu_rows t x y) 8 + tu_rows t x y 8)
  rw [tu_sm_cut 8 h0, tu_sm_mul x 8 hs, h8]
  grind
theorem tu_ev_y {t : Nat → Nat → Nat} (x y : Int32) (h : ∀ i, i < 9 → t i 8 = 0) : tu_ev (tu_sh 0 1 t) x y = y * tu_ev t x y := by
  have hr : ∀ i, i < 9 → tu_rows (tu_sh 0 1 t) x y i = y * tu_rows t x y i := by
    intro i hi
    have h0 : tu_row (tu_sh 0 1 t) x y i 0 = 0 := by
      show nI (tu_sh 0 1 t i 0) * _ = 0
      rw [show tu_sh 0 1 t i 0 = 0 from if_neg (by omega), nI_0]
      grind
    have h8 : tu_row t x y i 8 = 0 := by
      show nI (t i 8) * _ = 0
      rw [h i hi, nI_0]
      grind
    have hs : ∀ j, tu_row (tu_sh 0 1 t) x y i (j + 1) = y * tu_row t x y i j := by
      intro j
      show nI (tu_sh 0 1 t i (j + 1)) * (tu_pw x i * (tu_pw y j * y)) = y * (nI (t i j) * (tu_pw x i * tu_pw y j))
      rw [show tu_sh 0 1 t i (j + 1) = t i j from if_pos (by omega)]
      grind
    show tu_sm (tu_row (tu_sh 0 1 t) x y i) (8 + 1) = y * (tu_sm (tu_row t x y i) 8 + tu_row t x y i 8)
    rw [tu_sm_cut 8 h0, tu_sm_mul y 8 hs, h8]
    grind
  have key : ∀ n, n ≤ 9 → tu_sm (tu_rows (tu_sh 0 1 t) x y) n = y * tu_sm (tu_rows t x y) n := by
    intro n
    induction n with
    | zero => intro _; show (0 : Int32) = y * 0; grind
    | succ n ih =>
      intro hn
      show tu_sm (tu_rows (tu_sh 0 1 t) x y) n + tu_rows (tu_sh 0 1 t) x y n = y * (tu_sm (tu_rows t x y) n + tu_rows t x y n)
      rw [ih (by omega), hr n (by omega)]
      grind
  exact key 9 (by omega)
/-! how great the value at (-3, 0) is -/
theorem tu_pw4 : ∀ k, tu_pw 4 k = Int32.ofInt (4 ^ k) := by
  intro k
  induction k with
  | zero => rfl
  | succ k ih =>
    show tu_pw 4 k * 4 = _
    rw [Int.pow_succ, Int32.ofInt_mul, ih]
    rfl
theorem tu_rj (L : List (Nat × Nat)) (f : Nat → Nat) (e : Nat × Nat) (h : ¬ f e.1 = f e.2) : tu_r L f ≤ tu_r L (tu_j f e) + 1 := by
  have a := (tu_rM e L f).2 h
  by_cases d : tu_d L f e.1 = tu_d L f e.2
  · have b := (tu_rD e L f).1 d
    omega
  · have b := (tu_rD e L f).2 d
    omega
theorem tu_bd (L : List (Nat × Nat)) : ∀ f : Nat → Nat, L.length ≤ 8 → ∃ V : Int, tu_ev (tu_T L f) (1 - 4) 0 = Int32.ofInt V ∧ V.natAbs ≤ 2 ^ L.length * 3 ^ tu_r L f := by
  induction L with
  | nil => intro f _; exact ⟨1, by show tu_ev tu_one (1 - 4) 0 = Int32.ofInt 1; decide +kernel, by show (1 : Int).natAbs ≤ 2 ^ 0 * 3 ^ 0; decide⟩
  | cons e L ih =>
    intro f hl
    rw [List.length_cons] at hl ⊢
    by_cases c : f e.1 = f e.2
    · refine ⟨0, ?_, by rw [Int.natAbs_zero]; exact Nat.zero_le _⟩
      rw [tu_Tl c, tu_ev_y _ _ (fun i _ => tu_deg L f i 8 (by omega)), Int32.zero_mul]
      rfl
    · rw [tu_rn c]
      obtain ⟨V, hV, bV⟩ := ih (tu_j f e) (by omega)
      by_cases d : tu_d L f e.1 = tu_d L f e.2
      · obtain ⟨U, hU, bU⟩ := ih f (by omega)
        refine ⟨U + V, ?_, ?_⟩
        · rw [tu_To c d, tu_ev_ad, hU, hV, Int32.ofInt_add]
        · have m1 : 3 ^ tu_r L f ≤ 3 ^ (tu_r L (tu_j f e) + 1) := Nat.pow_le_pow_right (by decide) (tu_rj L f e c)
          have m2 : 3 ^ tu_r L (tu_j f e) ≤ 3 ^ (tu_r L (tu_j f e) + 1) := Nat.pow_le_pow_right (by decide) (by omega)
          have m3 := Nat.mul_le_mul_left (2 ^ L.length) m1
          have m4 := Nat.mul_le_mul_left (2 ^ L.length) m2
          have m5 : 2 ^ (L.length + 1) * 3 ^ (tu_r L (tu_j f e) + 1) = 2 ^ L.length * 3 ^ (tu_r L (tu_j f e) + 1) + 2 ^ L.length * 3 ^ (tu_r L (tu_j f e) + 1) := by
            rw [Nat.pow_succ, Nat.mul_assoc, Nat.mul_left_comm]
            omega
          have m6 := Int.natAbs_add_le U V
          omega
      · refine ⟨-3 * V, ?_, ?_⟩
        · rw [tu_Tb c d, tu_ev_x _ _ (fun j _ => tu_deg L _ 8 j (by omega)), hV, Int32.ofInt_mul]
          rfl
        · rw [Int.natAbs_mul]
          show 3 * V.natAbs ≤ 2 ^ (L.length + 1) * 3 ^ (tu_r L (tu_j f e) + 1)
          have m5 : 2 ^ (L.length + 1) * 3 ^ (tu_r L (tu_j f e) + 1) = 2 * (3 * (2 ^ L.length * 3 ^ tu_r L (tu_j f e))) := by
            rw [Nat.pow_succ, Nat.pow_succ]
            generalize 2 ^ L.length = u
            generalize 3 ^ tu_r L (tu_j f e) = v
            grind
          omega
theorem tu_dv4 (B : Int) (h : B.natAbs ≤ 2 ^ 28) : Int32.ofInt (B * 4) / 4 = Int32.ofInt B := by
  have e1 : Int32.minValue.toInt = -2147483648 := by decide
  have e2 : Int32.maxValue.toInt = 2147483647 := by decide
  have e := Int32.ofInt_tdiv (a := B * 4) (b := 4) (by omega) (by omega) (by omega) (by omega)
  rw [Int.mul_tdiv_cancel _ (by decide)] at e
  exact e.symm
def tu_sg (r : Nat) (v : Int32) : Int32 := if r % 2 = 0 then v else -v
theorem tu_sgs (r : Nat) (v : Int32) : tu_sg (r + 1) v = -tu_sg r v := by
  unfold tu_sg
  by_cases h : r % 2 = 0
  · rw [if_pos h, if_neg (by omega)]
  · rw [if_neg h, if_pos (by omega)]
    grind
theorem tu_sg_add (r : Nat) (v w : Int32) : tu_sg r (v + w) = tu_sg r v + tu_sg r w := by
  unfold tu_sg
  split
  · rfl
  · grind
theorem tu_sg_mul (r : Nat) (c v : Int32) : tu_sg r (c * v) = c * tu_sg r v := by
  unfold tu_sg
  split
  · rfl
  · grind
theorem tu_sg_0 (r : Nat) : tu_sg r 0 = 0 := by
  unfold tu_sg
  split <;> decide
def tu_cl (n r : Nat) (t : Nat → Nat → Nat) (k : Int32) : Int32 := tu_sg r (tu_ev t (1 - k) 0 * tu_pw k (n - r))
def tu_fl (m r : Nat) (t : Nat → Nat → Nat) (k : Int32) : Int32 := tu_sg (m - r) (tu_ev t 0 (1 - k))
theorem tu_34 : ∀ n, n < 7 → ∀ r, r < n → 3 ^ r * 4 ^ (n - r - 1) ≤ 4096 := by decide
theorem tu_cl4 {n : Nat} {L : List (Nat × Nat)} {f : Nat → Nat} (hn : n ≤ 6) (hl : L.length ≤ 8) (hr : tu_r L f < n) : tu_cl n (tu_r L f) (tu_T L f) 4 / 4 = tu_sg (tu_r L f) (tu_ev (tu_T L f) (1 - 4) 0 * tu_pw 4 (n - tu_r L f - 1)) := by
  obtain ⟨V, hV, bV⟩ := tu_bd L f hl
  unfold tu_cl
  rw [hV]
  generalize tu_r L f = r at *
  obtain ⟨k, hk⟩ : ∃ k, n - r = k + 1 := ⟨n - r - 1, by omega⟩
  have hk' : n - r - 1 = k := by omega
  have b34 := tu_34 n (by omega) r hr
  rw [hk'] at b34 ⊢
  rw [hk]
  show tu_sg r (Int32.ofInt V * (tu_pw 4 k * 4)) / 4 = _
  have e1 : Int32.ofInt V * (tu_pw 4 k * 4) = Int32.ofInt (V * 4 ^ k * 4) := by
    rw [Int32.ofInt_mul, Int32.ofInt_mul, ← tu_pw4, Int32.mul_assoc]
    rfl
  have e2 : Int32.ofInt V * tu_pw 4 k = Int32.ofInt (V * 4 ^ k) := by rw [Int32.ofInt_mul, ← tu_pw4]
  rw [e1, e2]
  have bB : (V * 4 ^ k).natAbs ≤ 2 ^ 28 := by
    rw [Int.natAbs_mul, Int.natAbs_pow]
    show V.natAbs * 4 ^ k ≤ 2 ^ 28
    have p8 : 2 ^ L.length ≤ 2 ^ 8 := Nat.pow_le_pow_right (by decide) hl
    have m1 : V.natAbs * 4 ^ k ≤ 2 ^ L.length * 3 ^ r * 4 ^ k := Nat.mul_le_mul_right _ bV
    rw [Nat.mul_assoc] at m1
    have m2 : 2 ^ L.length * (3 ^ r * 4 ^ k) ≤ 2 ^ 8 * 4096 := Nat.mul_le_mul p8 b34
    omega
  generalize V * 4 ^ k = B at *
  unfold tu_sg
  split
  · exact tu_dv4 B bB
  · rw [← Int32.ofInt_neg, ← Int32.ofInt_neg, show -(B * 4) = -B * 4 by omega]
    exact tu_dv4 (-B) (by omega)
/-! a loop -/
theorem tu_lc {n r : Nat} {t : Nat → Nat → Nat} (h : ∀ i, i < 9 → t i 8 = 0) : tu_cl n r (tu_sh 0 1 t) 4 = tu_cl n r t 4 - tu_cl n r t 4 := by
  rw [Int32.sub_self]
  unfold tu_cl
  rw [tu_ev_y _ _ h, Int32.zero_mul, Int32.zero_mul, tu_sg_0]
theorem tu_lf {m r : Nat} {t : Nat → Nat → Nat} (h : ∀ i, i < 9 → t i 8 = 0) (hr : r ≤ m) : tu_fl (m + 1) r (tu_sh 0 1 t) 3 = 2 * tu_fl m r t 3 := by
  unfold tu_fl
  rw [tu_ev_y _ _ h, show m + 1 - r = m - r + 1 by omega, tu_sgs, tu_sg_mul]
  show -((1 - 3) * tu_sg (m - r) (tu_ev t 0 (1 - 3))) = _
  generalize tu_sg (m - r) (tu_ev t 0 (1 - 3)) = v
  grind
/-! a bridge -/
theorem tu_bc {n r : Nat} {t : Nat → Nat → Nat} (h : ∀ j, j < 9 → t 8 j = 0) (hr : r < n) (hq : tu_cl n r t 4 / 4 = tu_sg r (tu_ev t (1 - 4) 0 * tu_pw 4 (n - r - 1))) : tu_cl n (r + 1) (tu_sh 1 0 t) 4 = tu_cl n r t 4 - tu_cl n r t 4 / 4 := by
  rw [hq]
  unfold tu_cl
  obtain ⟨k, hk⟩ : ∃ k, n - r = k + 1 := ⟨n - r - 1, by omega⟩
  rw [tu_ev_x _ _ h, tu_sgs, show n - (r + 1) = k by omega, hk, show k + 1 - 1 = k by omega]
  show -tu_sg r ((1 - 4) * tu_ev t (1 - 4) 0 * tu_pw 4 k) = tu_sg r (tu_ev t (1 - 4) 0 * (tu_pw 4 k * 4)) - tu_sg r (tu_ev t (1 - 4) 0 * tu_pw 4 k)
  generalize tu_ev t (1 - 4) 0 = v
  generalize tu_pw 4 k = w
  rw [show (1 - 4) * v * w = (1 - 4) * (v * w) by grind, show v * (w * 4) = 4 * (v * w) by grind]
  generalize v * w = x
  rw [tu_sg_mul, tu_sg_mul]
  generalize tu_sg r x = u
  grind
theorem tu_bf {m r : Nat} {t : Nat → Nat → Nat} (h : ∀ j, j < 9 → t 8 j = 0) : tu_fl (m + 1) (r + 1) (tu_sh 1 0 t) 3 = tu_fl m r t 3 - tu_fl m r t 3 := by
  rw [Int32.sub_self]
  unfold tu_fl
  rw [tu_ev_x _ _ h, Int32.zero_mul, tu_sg_0]
/-! neither -/
theorem tu_oc {n r : Nat} {t s : Nat → Nat → Nat} (hr : r < n) (hq : tu_cl n r s 4 / 4 = tu_sg r (tu_ev s (1 - 4) 0 * tu_pw 4 (n - r - 1))) : tu_cl n (r + 1) (tu_ad t s) 4 = tu_cl n (r + 1) t 4 - tu_cl n r s 4 / 4 := by
  rw [hq]
  unfold tu_cl
  rw [tu_ev_ad, show n - (r + 1) = n - r - 1 by omega, tu_sgs, tu_sgs, show (tu_ev t (1 - 4) 0 + tu_ev s (1 - 4) 0) * tu_pw 4 (n - r - 1) = tu_ev t (1 - 4) 0 * tu_pw 4 (n - r - 1) + tu_ev s (1 - 4) 0 * tu_pw 4 (n - r - 1) by grind, tu_sg_add]
  generalize tu_sg r (tu_ev t (1 - 4) 0 * tu_pw 4 (n - r - 1)) = u
  generalize tu_sg r (tu_ev s (1 - 4) 0 * tu_pw 4 (n - r - 1)) = v
  grind
theorem tu_of {m r : Nat} {t s : Nat → Nat → Nat} (hr : r + 1 ≤ m) : tu_fl (m + 1) (r + 1) (tu_ad t s) 3 = tu_fl m r s 3 - tu_fl m (r + 1) t 3 := by
  unfold tu_fl
  obtain ⟨k, hk⟩ : ∃ k, m - r = k + 1 := ⟨m - r - 1, by omega⟩
  rw [tu_ev_ad, show m + 1 - (r + 1) = k + 1 by omega, hk, show m - (r + 1) = k by omega, tu_sgs, tu_sgs, tu_sg_add]
  generalize tu_sg k (tu_ev t 0 (1 - 3)) = u
  generalize tu_sg k (tu_ev s 0 (1 - 3)) = v
  grind
end
section
/-! how points and sets of edges lie in an int -/
def tu_pt (W p : Nat) : Nat := W / 8 ^ p % 8
def tu_sel : Nat → List (Nat × Nat) → List (Nat × Nat)
  | _, [] => []
  | k, e :: L => if k % 2 = 1 then e :: tu_sel (k / 2) L else tu_sel (k / 2) L
theorem tu_sel_t {k : Nat} {e : Nat × Nat} {L : List (Nat × Nat)} (h : k % 2 = 1) : tu_sel k (e :: L) = e :: tu_sel (k / 2) L := if_pos h
theorem tu_sel_f {k : Nat} {e : Nat × Nat} {L : List (Nat × Nat)} (h : ¬ k % 2 = 1) : tu_sel k (e :: L) = tu_sel (k / 2) L := if_neg h
theorem tu_sel_len (L : List (Nat × Nat)) : ∀ k, (tu_sel k L).length ≤ L.length := by
  induction L with
  | nil => intro k; exact Nat.le_refl 0
  | cons e L ih =>
    intro k
    have t := ih (k / 2)
    by_cases h : k % 2 = 1
    · rw [tu_sel_t h, List.length_cons, List.length_cons]
      omega
    · rw [tu_sel_f h, List.length_cons]
      omega
theorem tu_sel_in {P : Nat → Prop} (L : List (Nat × Nat)) : ∀ k, tu_in P L → tu_in P (tu_sel k L) := by
  induction L with
  | nil => intro k h; exact h
  | cons e L ih =>
    intro k h
    by_cases c : k % 2 = 1
    · rw [tu_sel_t c]
      intro x hx
      rcases List.mem_cons.mp hx with z | z
      · rw [z]
        exact tu_inh h
      · exact ih _ (tu_int h) x z
    · rw [tu_sel_f c]
      exact ih _ (tu_int h)
theorem tu_sel_full (L : List (Nat × Nat)) : tu_sel (2 ^ L.length - 1) L = L := by
  induction L with
  | nil => rfl
  | cons e L ih =>
    have hp := Nat.two_pow_pos L.length
    rw [List.length_cons, Nat.pow_succ, tu_sel_t (by omega), show (2 ^ L.length * 2 - 1) / 2 = 2 ^ L.length - 1 by omega, ih]
theorem tu_sel_0 (L : List (Nat × Nat)) : tu_sel 0 L = [] := by
  induction L with
  | nil => rfl
  | cons e L ih => rw [tu_sel_f (by decide)]; exact ih
theorem tu_bit_ex : ∀ m K, 0 < K → K < 2 ^ m → ∃ e, e < m ∧ (∀ j, j < e → K / 2 ^ j % 2 = 0) ∧ K / 2 ^ e % 2 = 1 := by
  intro m
  induction m with
  | zero => intro K h1 h2; rw [Nat.pow_zero] at h2; omega
  | succ m ih =>
    intro K h1 h2
    rw [Nat.pow_succ] at h2
    by_cases c : K % 2 = 1
    · exact ⟨0, by omega, fun j hj => absurd hj (by omega), by rw [Nat.pow_zero, Nat.div_one]; exact c⟩
    · obtain ⟨e, a, b, d⟩ := ih (K / 2) (by omega) (by omega)
      refine ⟨e + 1, by omega, fun j hj => ?_, ?_⟩
      · cases j with
        | zero => rw [Nat.pow_zero, Nat.div_one]; omega
        | succ j => rw [Nat.pow_succ, Nat.mul_comm, ← Nat.div_div_eq_div_mul]; exact b j (by omega)
      · rw [Nat.pow_succ, Nat.mul_comm, ← Nat.div_div_eq_div_mul]
        exact d
theorem tu_sel_first (L : List (Nat × Nat)) : ∀ K e, e < L.length → (∀ j, j < e → K / 2 ^ j % 2 = 0) → K / 2 ^ e % 2 = 1 → ∃ g, L[e]? = some g ∧ tu_sel K L = g :: tu_sel (K - 2 ^ e) L := by
  induction L with
  | nil => intro K e h; exact absurd h (Nat.not_lt_zero _)
  | cons g L ih =>
    intro K e he h0 h1
    cases e with
    | zero =>
      rw [Nat.pow_zero, Nat.div_one] at h1
      refine ⟨g, rfl, ?_⟩
      rw [tu_sel_t h1, Nat.pow_zero, tu_sel_f (k := K - 1) (by omega), show (K - 1) / 2 = K / 2 by omega]
    | succ e =>
      have k0 := h0 0 (by omega)
      rw [Nat.pow_zero, Nat.div_one] at k0
      rw [Nat.pow_succ, Nat.mul_comm, ← Nat.div_div_eq_div_mul] at h1
      obtain ⟨x, a, b⟩ := ih (K / 2) e (by rw [List.length_cons] at he; omega) (fun j hj => by
        have t := h0 (j + 1) (by omega)
        rw [Nat.pow_succ, Nat.mul_comm, ← Nat.div_div_eq_div_mul] at t
        exact t) h1
      refine ⟨x, a, ?_⟩
      have hp := Nat.two_pow_pos e
      rw [tu_sel_f (by omega), b, Nat.pow_succ, tu_sel_f (k := K - 2 ^ e * 2) (by omega), show (K - 2 ^ e * 2) / 2 = K / 2 - 2 ^ e by omega]
/-! points -/
theorem tu_pt_8 (W p : Nat) : tu_pt W p < 8 := Nat.mod_lt _ (by decide)
theorem tu_pt_lo {W v i p : Nat} (hp : p < i) : tu_pt (W + v * 8 ^ i) p = tu_pt W p := by
  unfold tu_pt
  obtain ⟨k, rfl⟩ : ∃ k, i = p + 1 + k := ⟨i - p - 1, by omega⟩
  have e : v * 8 ^ (p + 1 + k) = 8 ^ p * (8 * (v * 8 ^ k)) := by
    rw [Nat.pow_add, Nat.pow_succ]
    generalize 8 ^ p = a
    generalize 8 ^ k = b
    grind
  rw [e, Nat.add_mul_div_left _ _ (Nat.pow_pos (by decide)), Nat.add_mul_mod_self_left]
theorem tu_pt_hi {W v i : Nat} (hW : W < 8 ^ i) (hv : v < 8) : tu_pt (W + v * 8 ^ i) i = v := by
  unfold tu_pt
  rw [Nat.mul_comm, Nat.add_mul_div_left _ _ (Nat.pow_pos (by decide)), Nat.div_eq_of_lt hW, Nat.zero_add, Nat.mod_eq_of_lt hv]
theorem tu_enc {W v i : Nat} (hW : W < 8 ^ i) (hv : v < 8) : W + v * 8 ^ i < 8 ^ (i + 1) := by
  have t := Nat.mul_le_mul_right (8 ^ i) (show v ≤ 7 by omega)
  rw [Nat.pow_succ]
  omega
theorem tu_86 {n W : Nat} (hn : n ≤ 6) (hW : W < 8 ^ n) : W < 2 ^ 18 := by
  have t : 8 ^ n ≤ 8 ^ 6 := Nat.pow_le_pow_right (by decide) hn
  omega
theorem tu_s3 : ∀ p, p < 8 → ((((3 : Int32) * nI p) &&& 31).toBitVec.smod 32).toNat = 3 * p := by decide +kernel
theorem tu_get {W p : Nat} (hW : W < 2 ^ 18) (hp : p < 8) : (nI W >>> (((3 : Int32) * nI p) &&& 31)) &&& 7 = nI (tu_pt W p) := by
  have h1 : W / 2 ^ (3 * p) ≤ W := Nat.div_le_self _ _
  rw [pk_shrN (by omega) _ (3 * p) (tu_s3 p hp), pk_andN (by omega) 3 (by decide)]
  unfold tu_pt
  rw [Nat.pow_mul]
theorem tu_nor (a b : Nat) : nI a ||| nI b = nI (a ||| b) := by
  apply Int32.toBitVec_inj.1
  show BitVec.ofNat 32 a ||| BitVec.ofNat 32 b = BitVec.ofNat 32 (a ||| b)
  apply BitVec.eq_of_getLsbD_eq
  intro i hi
  simp [hi]
theorem tu_put {W v i : Nat} (hW : W < 8 ^ i) (hi : i < 6) (hv : v < 8) : nI W ||| (nI v <<< (((3 : Int32) * nI i) &&& 31)) = nI (W + v * 8 ^ i) := by
  have hb := tu_86 (n := i + 1) (by omega) (tu_enc hW hv)
  have e8 : 2 ^ (3 * i) = 8 ^ i := Nat.pow_mul 2 3 i
  rw [pk_shlN _ (3 * i) (tu_s3 i (by omega)) (by rw [e8]; omega), tu_nor, e8, Nat.or_comm]
  have t := Nat.two_pow_add_eq_or_of_lt (i := 3 * i) (b := W) (by rw [e8]; exact hW) v
  rw [e8, Nat.mul_comm] at t
  rw [← t, Nat.add_comm]
/-! sets of edges, bytes, shorts -/
theorem tu_bit : ∀ K, K < 256 → ∀ e, e < 8 → (nI K >>> (nI e &&& 31)) &&& 1 = nI (K / 2 ^ e % 2) := by decide +kernel
theorem tu_clr : ∀ K, K < 256 → ∀ e, e < 8 → K / 2 ^ e % 2 = 1 → nI K &&& (((1 : Int32) <<< (nI e &&& 31)) ^^^ (-1)) = nI (K - 2 ^ e) := by decide +kernel
theorem tu_all : ∀ m, m < 9 → ((1 : Int32) <<< (nI m &&& 31)) - 1 = nI (2 ^ m - 1) := by decide +kernel
theorem tu_i16 : ∀ K, K < 256 → (nI K).toInt16.toInt32 = nI K := by decide +kernel
theorem tu_i8 : ∀ K, K < 128 → (nI K).toInt8.toInt32 = nI K := by decide +kernel
theorem tu_nb {k : Nat} (h : k < 128) : vp_nar .byte (nI k) = nI k := by rw [vp_nar_byte, tu_i8 k h]
theorem tu_256 {m K : Nat} (hm : m ≤ 8) (hK : K < 2 ^ m) : K < 256 := by
  have t : 2 ^ m ≤ 2 ^ 8 := Nat.pow_le_pow_right (by decide) hm
  omega
end
section
/-! the walks over points: startPoints, pointOf, joined, drawnTogether, parts -/
section
variable {f0 f1 f2 f3 : Int32} {a1 a2 a3 a4 a5 a6 a7 : Nat → Int32}
/-- the arrays of ends hold the edges E -/
def gw_E (E : List (Nat × Nat)) (a1 a2 : Nat → Int32) : Prop := ∀ k g, E[k]? = some g → a1 k = nI g.1 ∧ a2 k = nI g.2
theorem gw_start {post : Int32 → Prop} {n : Nat} (hn : n ≤ 6) (H : ∀ W, W < 2 ^ 18 → (∀ p, p < n → tu_pt W p = p) → post (nI W)) : wpX_startPoints post (nI n, f1, f2, f3, a1, a2, a3, a4, a5, a6, a7) := by
  unfold wpX_startPoints
  refine pk_loop (fun N i s => wX_startPoints_4 post (nI n) f1 f2 f3 a1 a2 a3 a4 a5 a6 a7 N s (nI i)) (fun i s => ∃ W, s = nI W ∧ W < 8 ^ i ∧ ∀ p, p < i → tu_pt W p = p) n 0 0 (by omega) ⟨0, rfl, by decide, fun p hp => absurd hp (by omega)⟩ ?_ ?_
  · rintro N s ⟨W, rfl, hW, h⟩
    exact pk_le n n (fun _ => H W (tu_86 hn hW) h) (fun z => absurd z (by omega))
  · rintro N i s hi ⟨W, rfl, hW, h⟩ hw
    refine pk_le n i (fun z => absurd z (by omega)) (fun _ => nm_r (tu_put hW (by omega) (by omega)) (nm_r (nI_1 i) (hw _ ⟨_, rfl, tu_enc hW (by omega), fun p hp => ?_⟩)))
    by_cases e : p = i
    · rw [e, tu_pt_hi hW (by omega)]
    · rw [tu_pt_lo (by omega)]
      exact h p (by omega)
theorem gw_pt {post : Int32 → Prop} {W p : Nat} {x : Int32} (hx : x = nI p) (hW : W < 2 ^ 18) (hp : p < 8) (H : post (nI (tu_pt W p))) : wpX_pointOf post (f0, f1, f2, f3, a1, a2, a3, a4, a5, a6, a7) (nI W) x := by
  subst hx
  unfold wpX_pointOf
  dsimp only
  rw [tu_get hW hp]
  exact H
theorem gw_j30 {post : Int32 → Prop} {n W lo hi : Nat} (hn : n ≤ 6) (hW : W < 2 ^ 18) (hlo : lo < 8) (hhi : hi < 8) (H : ∀ R, R < 2 ^ 18 → (∀ p, p < n → tu_pt R p = if tu_pt W p = hi then lo else tu_pt W p) → post (nI R)) : ∃ fu, wX_joined_30 post (nI W) (nI lo) (nI hi) (nI n) f1 f2 f3 a1 a2 a3 a4 a5 a6 a7 fu 0 0 := by
  refine pk_loop (fun N i s => wX_joined_30 post (nI W) (nI lo) (nI hi) (nI n) f1 f2 f3 a1 a2 a3 a4 a5 a6 a7 N s (nI i)) (fun i s => ∃ R, s = nI R ∧ R < 8 ^ i ∧ ∀ p, p < i → tu_pt R p = if tu_pt W p = hi then lo else tu_pt W p) n 0 0 (by omega) ⟨0, rfl, by decide, fun p hp => absurd hp (by omega)⟩ ?_ ?_
  · rintro N s ⟨R, rfl, hR, h⟩
    exact pk_le n n (fun _ => H R (tu_86 hn hR) h) (fun z => absurd z (by omega))
  · rintro N i s hi' ⟨R, rfl, hR, h⟩ hw
    have st : ∀ v, v < 8 → v = (if tu_pt W i = hi then lo else tu_pt W i) → wX_joined_66 post (wX_joined_30 post (nI W) (nI lo) (nI hi) (nI n) f1 f2 f3 a1 a2 a3 a4 a5 a6 a7 N) (nI W) (nI lo) (nI hi) (nI i) (nI v) (nI R) (nI n) f1 f2 f3 a1 a2 a3 a4 a5 a6 a7 := by
      intro v hv ev
      unfold wX_joined_66
      refine nm_r (tu_put hR (by omega) hv) (nm_r (nI_1 i) (hw _ ⟨_, rfl, tu_enc hR hv, fun p hp => ?_⟩))
      by_cases e : p = i
      · rw [e, tu_pt_hi hR hv, ev]
      · rw [tu_pt_lo (by omega)]
        exact h p (by omega)
    have h8 := tu_pt_8 W i
    exact pk_le n i (fun z => absurd z (by omega)) (fun _ => nm_r (tu_get hW (by omega)) (pk_eq (tu_pt W i) hi (fun z => st lo hlo (by rw [if_pos z])) (fun z => st _ h8 (by rw [if_neg z]))))
theorem gw_joined {post : Int32 → Prop} {n W a b : Nat} (hn : n ≤ 6) (hW : W < 2 ^ 18) (ha : a < 8) (hb : b < 8) (H : ∀ R, R < 2 ^ 18 → (∀ p, p < n → tu_pt R p = if tu_pt W p = max a b then min a b else tu_pt W p) → post (nI R)) : wpX_joined post (nI n, f1, f2, f3, a1, a2, a3, a4, a5, a6, a7) (nI W) (nI a) (nI b) := by
  unfold wpX_joined
  refine pk_le b a (fun z => ?_) (fun z => ?_)
  · unfold wX_joined_10
    exact pk_le b a (fun _ => gw_j30 hn hW hb ha (fun R hR h => H R hR (fun p hp => by rw [h p hp, Nat.max_eq_left z, Nat.min_eq_right z]))) (fun y => absurd y (by omega))
  · unfold wX_joined_10
    exact pk_le b a (fun y => absurd y (by omega)) (fun _ => gw_j30 hn hW ha hb (fun R hR h => H R hR (fun p hp => by rw [h p hp, Nat.max_eq_right (by omega), Nat.min_eq_left (by omega)])))
theorem gw_draw {post : Int32 → Prop} {n K W : Nat} {k : Int32} {E : List (Nat × Nat)} (hn : n ≤ 6) (hm : E.length ≤ 8) (hE : tu_in (fun p => p < n) E) (hA : gw_E E a1 a2) (hk : k = nI K) (hK : K < 256) (hW : W < 2 ^ 18)
    (H : ∀ R, R < 2 ^ 18 → (∀ p, p < n → tu_pt R p = tu_d (tu_sel K E) (tu_pt W) p) → post (nI R)) : wpX_drawnTogether post (nI n, nI E.length, f2, f3, a1, a2, a3, a4, a5, a6, a7) k (nI W) := by
  subst hk
  unfold wpX_drawnTogether
  refine pk_loop (fun N i s => wX_drawnTogether_5 post (nI K) (nI n) (nI E.length) f2 f3 a1 a2 a3 a4 a5 a6 a7 N s (nI i)) (fun i s => ∃ R, s = nI R ∧ R < 2 ^ 18 ∧ ∀ p, p < n → tu_d (tu_sel (K / 2 ^ i) (E.drop i)) (tu_pt R) p = tu_d (tu_sel K E) (tu_pt W) p) E.length 0 (nI W) (by omega) ⟨W, rfl, hW, fun p _ => by rw [Nat.pow_zero, Nat.div_one, List.drop_zero]⟩ ?_ ?_
  · rintro N s ⟨R, rfl, hR, h⟩
    have e0 : tu_sel (K / 2 ^ E.length) (E.drop E.length) = [] := by
      rw [List.drop_length]
      rfl
    exact pk_le E.length E.length (fun _ => H R hR (fun p hp => by
      have t := h p hp
      rw [e0] at t
      exact t)) (fun z => absurd z (by omega))
  · rintro N i s hi ⟨R, rfl, hR, h⟩ hw
    have hg := List.drop_eq_getElem_cons hi
    have hgs : E[i]? = some E[i] := List.getElem?_eq_getElem hi
    generalize E[i] = g at hg hgs
    have hge : g ∈ E := List.mem_of_getElem? hgs
    have g12 := hE g hge
    have hab := hA i g hgs
    have g1 : g.1 < n := g12.1
    have g2 : g.2 < n := g12.2
    have e2 : K / 2 ^ i / 2 = K / 2 ^ (i + 1) := by rw [Nat.pow_succ, Nat.div_div_eq_div_mul]
    have cl := nI_clamp (show i < 2 ^ 31 by omega)
    have hdr : tu_in (fun p => p < n) (E.drop (i + 1)) := fun x hx => hE x (List.mem_of_mem_drop hx)
    refine pk_le E.length i (fun z => absurd z (by omega)) (fun _ => ?_)
    refine pk_eq (K / 2 ^ i % 2) 0 (fun z => nm_r (nI_1 i) (hw _ ⟨R, rfl, hR, fun p hp => ?_⟩)) (fun z => ⟨pk_in i 8 (by omega), ?_⟩) (hx := tu_bit K hK i (by omega)) (ha := by omega)
    · have t := h p hp
      rw [hg, tu_sel_f (by omega), e2] at t
      exact t
    · have h8 := tu_pt_8 R g.1
      have h8' := tu_pt_8 R g.2
      refine gw_pt (p := g.1) (by rw [cl]; exact hab.1) hR (by omega) ⟨pk_in i 8 (by omega), gw_pt (p := g.2) (by rw [cl]; exact hab.2) hR (by omega) ?_⟩
      refine pk_eq (tu_pt R g.1) (tu_pt R g.2) (fun z => nm_r (nI_1 i) (hw _ ⟨R, rfl, hR, fun p hp => ?_⟩)) (fun z => gw_joined hn hR h8 h8' (fun R' hR' h' => nm_r (nI_1 i) (hw _ ⟨R', rfl, hR', fun p hp => ?_⟩)))
      · have t := h p hp
        rw [hg, tu_sel_t (by omega), e2] at t
        have t2 : tu_d (tu_sel (K / 2 ^ (i + 1)) (E.drop (i + 1))) (tu_j (tu_pt R) g) p = tu_d (tu_sel K E) (tu_pt W) p := t
        rw [tu_jl z] at t2
        exact t2
      · have t := h p hp
        rw [hg, tu_sel_t (by omega), e2] at t
        have t2 : tu_d (tu_sel (K / 2 ^ (i + 1)) (E.drop (i + 1))) (tu_j (tu_pt R) g) p = tu_d (tu_sel K E) (tu_pt W) p := t
        rw [← t2]
        exact tu_dcg _ (tu_sel_in _ _ hdr) (fun q hq => h' q hq) p hp
theorem gw_parts {post : Int32 → Prop} {n : Nat} {E : List (Nat × Nat)} (hn : n ≤ 6) (hm : E.length ≤ 8) (hE : tu_in (fun p => p < n) E) (hA : gw_E E a1 a2) (H : post (nI (n - tu_r E id))) : wpX_parts post (nI n, nI E.length, f2, f3, a1, a2, a3, a4, a5, a6, a7) := by
  unfold wpX_parts
  have hK : 2 ^ E.length - 1 < 256 := by
    have t : 2 ^ E.length ≤ 2 ^ 8 := Nat.pow_le_pow_right (by decide) hm
    omega
  refine gw_start hn (fun W hW h => gw_draw (K := 2 ^ E.length - 1) hn hm hE hA (tu_all _ (by omega)) hK hW (fun R hR h2 => ?_))
  have hF : ∀ p, p < n → tu_pt R p = tu_d E id p := by
    intro p hp
    rw [h2 p hp, tu_sel_full]
    exact tu_dcg E hE h p hp
  have hc : tu_n n (tu_pt R) = n - tu_r E id := by
    have t := tu_parts hE
    rw [tu_ncg n hF]
    omega
  refine pk_loop (fun N i s => wX_parts_23 post (nI R) (nI n) (nI E.length) f2 f3 a1 a2 a3 a4 a5 a6 a7 N s (nI i)) (fun i s => s = nI (tu_n i (tu_pt R))) n 0 0 (by omega) rfl ?_ ?_
  · rintro N s rfl
    rw [hc]
    exact pk_le n n (fun _ => H) (fun z => absurd z (by omega))
  · rintro N i s hi rfl hw
    have h8 := tu_pt_8 R i
    refine pk_le n i (fun z => absurd z (by omega)) (fun _ => pk_eq (tu_pt R i) i (fun z => nm_r (nI_1 _) (nm_r (nI_1 i) (hw _ ?_))) (fun z => nm_r (nI_1 i) (hw _ ?_)) (hx := tu_get hR (by omega)))
    · show nI (tu_n i (tu_pt R) + 1) = nI (tu_n i (tu_pt R) + if tu_pt R i = i then 1 else 0)
      rw [if_pos z]
    · show nI (tu_n i (tu_pt R)) = nI (tu_n i (tu_pt R) + if tu_pt R i = i then 1 else 0)
      rw [if_neg z]
      rfl
end
end
section
/-! the walks over the polynomial: push, workOff, findPolynomial -/
section
variable {f0 f1 f2 f3 : Int32} {a1 a2 a3 a4 a5 a6 a7 : Nat → Int32}
/-- the graphs that wait, the last one first: edges, points, the two exponents -/
def gw_S (a4 a5 a6 a7 : Nat → Int32) : List (Nat × Nat × Nat × Nat) → Prop
  | [] => True
  | (K, W, x, y) :: st => (a4 st.length = nI K ∧ a5 st.length = nI W ∧ a6 st.length = nI x ∧ a7 st.length = nI y) ∧ gw_S a4 a5 a6 a7 st
def gw_V (E : List (Nat × Nat)) : List (Nat × Nat × Nat × Nat) → Prop
  | [] => True
  | (K, W, x, y) :: st => (K < 2 ^ E.length ∧ W < 2 ^ 18 ∧ (tu_sel K E).length + st.length ≤ 8 ∧ x + y + (tu_sel K E).length ≤ 8) ∧ gw_V E st
def gw_tot (E : List (Nat × Nat)) : List (Nat × Nat × Nat × Nat) → Nat → Nat → Nat
  | [] => fun _ _ => 0
  | (K, W, x, y) :: st => tu_ad (tu_sh x y (tu_T (tu_sel K E) (tu_pt W))) (gw_tot E st)
def gw_mu (E : List (Nat × Nat)) : List (Nat × Nat × Nat × Nat) → Nat
  | [] => 0
  | (K, _, _, _) :: st => 3 ^ (tu_sel K E).length + gw_mu E st
theorem gw_Su {v4 v5 v6 v7 : Int32} {k : Nat} (st : List (Nat × Nat × Nat × Nat)) : st.length ≤ k → gw_S a4 a5 a6 a7 st → gw_S (upd a4 k v4) (upd a5 k v5) (upd a6 k v6) (upd a7 k v7) st := by
  induction st with
  | nil => intro _ _; trivial
  | cons s st ih =>
    obtain ⟨K, W, x, y⟩ := s
    intro hk h
    rw [List.length_cons] at hk
    have hne : st.length ≠ k := by omega
    obtain ⟨⟨h1, h2, h3, h4⟩, h5⟩ := h
    exact ⟨⟨by rw [pk_un hne, h1], by rw [pk_un hne, h2], by rw [pk_un hne, h3], by rw [pk_un hne, h4]⟩, ih (by omega) h5⟩
theorem gw_Sp {st : List (Nat × Nat × Nat × Nat)} (K W x y : Nat) (h : gw_S a4 a5 a6 a7 st) : gw_S (upd a4 st.length (nI K)) (upd a5 st.length (nI W)) (upd a6 st.length (nI x)) (upd a7 st.length (nI y)) ((K, W, x, y) :: st) :=
  ⟨⟨pk_us, pk_us, pk_us, pk_us⟩, gw_Su st (Nat.le_refl _) h⟩
theorem gw_push {post : St2 → Prop} {w K W x y : Nat} {q2 q3 : Int32} (h2 : q2 = nI x) (h3 : q3 = nI y) (hw : w < 12) (hK : K < 256) (hx : x < 128) (hy : y < 128)
    (H : post (f0, f1, f2, nI (w + 1), a1, a2, a3, upd a4 w (nI K), upd a5 w (nI W), upd a6 w (nI x), upd a7 w (nI y))) : wpX_push post (f0, f1, f2, nI w, a1, a2, a3, a4, a5, a6, a7) (nI K) (nI W) q2 q3 := by
  subst h2 h3
  unfold wpX_push
  dsimp only
  rw [nI_clamp (show w < 2 ^ 31 by omega), tu_i16 K hK, tu_i8 x hx, tu_i8 y hy]
  exact ⟨pk_in w 12 hw, nm_e ⟨pk_in w 12 hw, nm_e ⟨pk_in w 12 hw, nm_e ⟨pk_in w 12 hw, nm_e (nm_r (nI_1 w) H)⟩⟩⟩⟩
theorem gw_9 (x y : Nat) : (9 : Int32) * nI x + nI y = nI (9 * x + y) := by
  show nI 9 * nI x + nI y = _
  rw [pk_mul, nI_add]
theorem gw_p3 (k : Nat) : 3 ^ (k + 1) = 3 * 3 ^ k ∧ 0 < 3 ^ k := ⟨by rw [Nat.pow_succ, Nat.mul_comm], Nat.pow_pos (by decide)⟩
/-- one graph worked off: what the terms and the waiting graphs say together stays -/
theorem gw_work {post : St2 → Prop} {n K W x y : Nat} {q0 q1 q2 q3 : Int32} {E : List (Nat × Nat)} {st : List (Nat × Nat × Nat × Nat)} (hn : n ≤ 6) (hm : E.length ≤ 8) (hE : tu_in (fun p => p < n) E) (hA : gw_E E a1 a2) (h0 : q0 = nI K) (h1 : q1 = nI W) (h2 : q2 = nI x) (h3 : q3 = nI y)
    (hS : gw_S a4 a5 a6 a7 st) (hV : gw_V E ((K, W, x, y) :: st))
    (H : ∀ (c b4 b5 b6 b7 : Nat → Int32) (st' : List (Nat × Nat × Nat × Nat)), gw_S b4 b5 b6 b7 st' → gw_V E st' → gw_mu E st' < gw_mu E ((K, W, x, y) :: st) → (∀ i j, i < 9 → j < 9 → c (9 * i + j) + nI (gw_tot E st' i j) = a3 (9 * i + j) + nI (gw_tot E ((K, W, x, y) :: st) i j)) → post (nI n, nI E.length, f2, nI st'.length, a1, a2, c, b4, b5, b6, b7)) :
    wpX_workOff post (nI n, nI E.length, f2, nI st.length, a1, a2, a3, a4, a5, a6, a7) q0 q1 q2 q3 := by
  subst h0 h1 h2 h3
  obtain ⟨⟨v1, v2, v3, v4⟩, v5⟩ := hV
  have hK := tu_256 hm v1
  unfold wpX_workOff
  refine pk_eq K 0 (fun z => ?_) (fun z => ?_)
  · subst z
    rw [tu_sel_0, List.length_nil] at v3 v4
    refine ⟨pk_in (9 * x + y) 81 (by omega) (gw_9 x y), pk_in (9 * x + y) 81 (by omega) (gw_9 x y), nm_e (H _ a4 a5 a6 a7 st hS v5 ?_ ?_)⟩
    · show gw_mu E st < 3 ^ (tu_sel 0 E).length + gw_mu E st
      have := (gw_p3 (tu_sel 0 E).length).2
      omega
    · intro i j hi hj
      show upd a3 ((9 : Int32) * nI x + nI y).toNatClampNeg (a3 ((9 : Int32) * nI x + nI y).toNatClampNeg + 1) (9 * i + j) + nI (gw_tot E st i j) = a3 (9 * i + j) + nI (tu_sh x y (tu_T (tu_sel 0 E) (tu_pt W)) i j + gw_tot E st i j)
      rw [gw_9, nI_clamp (by omega), tu_sel_0]
      show _ = a3 (9 * i + j) + nI ((if x ≤ i ∧ y ≤ j then (if i - x = 0 ∧ j - y = 0 then 1 else 0) else 0) + gw_tot E st i j)
      by_cases e : i = x ∧ j = y
      · rw [e.1, e.2, pk_us, if_pos ⟨Nat.le_refl x, Nat.le_refl y⟩, if_pos (by omega), ← nI_add]
        show a3 (9 * x + y) + 1 + nI (gw_tot E st x y) = a3 (9 * x + y) + (1 + nI (gw_tot E st x y))
        exact Int32.add_assoc _ _ _
      · rw [pk_un (show 9 * i + j ≠ 9 * x + y by omega)]
        by_cases c : x ≤ i ∧ y ≤ j
        · rw [if_pos c, if_neg (show ¬ (i - x = 0 ∧ j - y = 0) by omega), Nat.zero_add]
        · rw [if_neg c, Nat.zero_add]
  · obtain ⟨e, he, b0, b1⟩ := tu_bit_ex E.length K (by omega) v1
    obtain ⟨g, hgs, hsel⟩ := tu_sel_first E K e he b0 b1
    have hge : g ∈ E := List.mem_of_getElem? hgs
    have g12 := hE g hge
    have g1 : g.1 < n := g12.1
    have g2 : g.2 < n := g12.2
    have hab := hA e g hgs
    have cl := nI_clamp (show e < 2 ^ 31 by omega)
    have hp := gw_p3 (tu_sel (K - 2 ^ e) E).length
    have hr : K - 2 ^ e < 2 ^ E.length := Nat.lt_of_le_of_lt (Nat.sub_le _ _) v1
    have hr2 : K - 2 ^ e < 256 := Nat.lt_of_le_of_lt (Nat.sub_le _ _) hK
    have hin := tu_sel_in (P := fun p => p < n) E (K - 2 ^ e) hE
    have hmu : gw_mu E ((K, W, x, y) :: st) = 3 * 3 ^ (tu_sel (K - 2 ^ e) E).length + gw_mu E st := by
      show 3 ^ (tu_sel K E).length + gw_mu E st = _
      rw [hsel, List.length_cons, hp.1]
    rw [hsel, List.length_cons] at v3 v4
    have htot : gw_tot E ((K, W, x, y) :: st) = tu_ad (tu_sh x y (tu_T (g :: tu_sel (K - 2 ^ e) E) (tu_pt W))) (gw_tot E st) := by
      show tu_ad (tu_sh x y (tu_T (tu_sel K E) (tu_pt W))) (gw_tot E st) = _
      rw [hsel]
    refine pk_loop (σ := Unit) (fun N i _ => wX_workOff_24 post (nI K) (nI W) (nI x) (nI y) (nI n) (nI E.length) f2 (nI st.length) a1 a2 a3 a4 a5 a6 a7 N (nI i)) (fun _ _ => True) e 0 () (by omega) trivial ?_ ?_
    · intro N _ _
      have h8 := tu_pt_8 W g.1
      have h8' := tu_pt_8 W g.2
      refine pk_eq (K / 2 ^ e % 2) 0 (fun z => absurd z (by omega)) (fun _ => nm_r (tu_clr K hK e (by omega) b1) ⟨pk_in e 8 (by omega), ?_⟩) (hx := tu_bit K hK e (by omega)) (ha := by omega)
      refine gw_pt (p := g.1) (by rw [cl]; exact hab.1) v2 (by omega) ⟨pk_in e 8 (by omega), gw_pt (p := g.2) (by rw [cl]; exact hab.2) v2 (by omega) ?_⟩
      refine pk_eq (tu_pt W g.1) (tu_pt W g.2) (fun c => ?_) (fun c => ?_)
      · refine gw_push rfl (nI_1 y) (by omega) hr2 (by omega) (by omega) (H _ _ _ _ _ ((K - 2 ^ e, W, x, y + 1) :: st) (gw_Sp _ _ _ _ hS) ⟨⟨hr, v2, by omega, by omega⟩, v5⟩ ?_ ?_)
        · rw [hmu]
          show 3 ^ (tu_sel (K - 2 ^ e) E).length + gw_mu E st < _
          omega
        · intro i j hi hj
          rw [htot, tu_Tl c, tu_shsh]
          rfl
      · refine gw_joined hn v2 h8 h8' (fun R hR hRp => gw_draw (K := K - 2 ^ e) hn hm hE hA rfl hr2 v2 (fun D hD hDp => ⟨pk_in e 8 (by omega), ?_⟩))
        have k8 := tu_pt_8 D g.1
        have k8' := tu_pt_8 D g.2
        have hRT : tu_T (tu_sel (K - 2 ^ e) E) (tu_pt R) = tu_T (tu_sel (K - 2 ^ e) E) (tu_j (tu_pt W) g) := tu_Tcg hin (fun p hp => hRp p hp)
        refine gw_pt (p := g.1) (by rw [cl]; exact hab.1) hD (by omega) ⟨pk_in e 8 (by omega), gw_pt (p := g.2) (by rw [cl]; exact hab.2) hD (by omega) ?_⟩
        refine pk_eq (tu_pt D g.1) (tu_pt D g.2) (fun d => ?_) (fun d => ?_)
        · have d' : tu_d (tu_sel (K - 2 ^ e) E) (tu_pt W) g.1 = tu_d (tu_sel (K - 2 ^ e) E) (tu_pt W) g.2 := by rw [← hDp _ g1, ← hDp _ g2, d]
          refine gw_push rfl rfl (by omega) hr2 (by omega) (by omega) (gw_push (w := st.length + 1) rfl rfl (by omega) hr2 (by omega) (by omega) (H _ _ _ _ _ ((K - 2 ^ e, R, x, y) :: (K - 2 ^ e, W, x, y) :: st) (gw_Sp _ _ _ _ (gw_Sp _ _ _ _ hS)) ⟨⟨hr, hR, ?_, by omega⟩, ⟨hr, v2, by omega, by omega⟩, v5⟩ ?_ ?_))
          · rw [List.length_cons]
            omega
          · rw [hmu]
            show 3 ^ (tu_sel (K - 2 ^ e) E).length + (3 ^ (tu_sel (K - 2 ^ e) E).length + gw_mu E st) < _
            omega
          · intro i j hi hj
            rw [htot, tu_To c d', tu_shad]
            show a3 (9 * i + j) + nI (tu_sh x y (tu_T (tu_sel (K - 2 ^ e) E) (tu_pt R)) i j + (tu_sh x y (tu_T (tu_sel (K - 2 ^ e) E) (tu_pt W)) i j + gw_tot E st i j)) = a3 (9 * i + j) + nI (tu_sh x y (tu_T (tu_sel (K - 2 ^ e) E) (tu_pt W)) i j + tu_sh x y (tu_T (tu_sel (K - 2 ^ e) E) (tu_j (tu_pt W) g)) i j + gw_tot E st i j)
            rw [hRT]
            congr 2
            omega
        · have d' : ¬ tu_d (tu_sel (K - 2 ^ e) E) (tu_pt W) g.1 = tu_d (tu_sel (K - 2 ^ e) E) (tu_pt W) g.2 := by rw [← hDp _ g1, ← hDp _ g2]; exact d
          refine gw_push (nI_1 x) rfl (by omega) hr2 (by omega) (by omega) (H _ _ _ _ _ ((K - 2 ^ e, R, x + 1, y) :: st) (gw_Sp _ _ _ _ hS) ⟨⟨hr, hR, by omega, by omega⟩, v5⟩ ?_ ?_)
          · rw [hmu]
            show 3 ^ (tu_sel (K - 2 ^ e) E).length + gw_mu E st < _
            omega
          · intro i j hi hj
            rw [htot, tu_Tb c d', tu_shsh]
            show a3 (9 * i + j) + nI (tu_sh (x + 1) y (tu_T (tu_sel (K - 2 ^ e) E) (tu_pt R)) i j + gw_tot E st i j) = _
            rw [hRT]
            rfl
    · intro N i _ hi _ hw
      exact pk_eq (K / 2 ^ i % 2) 0 (fun _ => nm_r (nI_1 i) (hw () trivial)) (fun z => absurd (b0 i hi) z) (hx := tu_bit K hK i (by omega)) (ha := by omega)
theorem gw_59 {post : St2 → Prop} {n : Nat} {E : List (Nat × Nat)} (hn : n ≤ 6) (hm : E.length ≤ 8) (hE : tu_in (fun p => p < n) E) (hA : gw_E E a1 a2)
    (H : ∀ (w : Int32) (c b4 b5 b6 b7 : Nat → Int32), (∀ i j, i < 9 → j < 9 → c (9 * i + j) = nI (tu_T E id i j)) → post (nI n, nI E.length, f2, w, a1, a2, c, b4, b5, b6, b7)) :
    ∀ (N : Nat) (st : List (Nat × Nat × Nat × Nat)) (c b4 b5 b6 b7 : Nat → Int32), gw_S b4 b5 b6 b7 st → gw_V E st → gw_mu E st < N → (∀ i j, i < 9 → j < 9 → c (9 * i + j) + nI (gw_tot E st i j) = nI (tu_T E id i j)) → wX_findPolynomial_59 post N (nI n) (nI E.length) f2 (nI st.length) a1 a2 c b4 b5 b6 b7 := by
  intro N
  induction N with
  | zero => intro st c b4 b5 b6 b7 _ _ h; exact absurd h (Nat.not_lt_zero _)
  | succ N ih =>
    intro st c b4 b5 b6 b7 hS hV hN hI
    cases st with
    | nil =>
      refine pk_le 0 0 (fun _ => H _ _ _ _ _ _ (fun i j hi hj => ?_)) (fun z => absurd z (by omega))
      have t := hI i j hi hj
      rw [← t]
      show c (9 * i + j) = c (9 * i + j) + 0
      grind
    | cons s st =>
      obtain ⟨K, W, x, y⟩ := s
      have cl := nI_clamp (show st.length < 2 ^ 31 by have := hV.1.2.2.1; omega)
      have hl : st.length < 12 := by have := hV.1.2.2.1; omega
      refine pk_le (st.length + 1) 0 (fun z => absurd z (by omega)) (fun _ => nm_r (nI_pred st.length) ⟨pk_in st.length 12 hl, pk_in st.length 12 hl, pk_in st.length 12 hl, pk_in st.length 12 hl, ?_⟩)
      refine gw_work hn hm hE hA (by rw [cl]; exact hS.1.1) (by rw [cl]; exact hS.1.2.1) (by rw [cl]; exact hS.1.2.2.1) (by rw [cl]; exact hS.1.2.2.2) hS.2 hV (fun c' b4' b5' b6' b7' st' hS' hV' hmu hI' => ih st' c' b4' b5' b6' b7' hS' hV' (by omega) (fun i j hi hj => ?_))
      rw [hI' i j hi hj]
      exact hI i j hi hj
/-- an object that holds the graph E over n points: what is kept of the polynomial is right, if it is said to be ready -/
def gw_O (n m : Nat) (E : List (Nat × Nat)) (rd : Int32) (a1 a2 a3 : Nat → Int32) : Prop :=
  n ≤ 6 ∧ E.length = m ∧ m ≤ 8 ∧ tu_in (fun p => p < n) E ∧ gw_E E a1 a2 ∧ (¬ rd = 0 → ∀ i j, i < 9 → j < 9 → a3 (9 * i + j) = nI (tu_T E id i j))
theorem gw_find {post : St2 → Prop} {n m : Nat} {E : List (Nat × Nat)} {rd wt : Int32} (O : gw_O n m E rd a1 a2 a3)
    (H : ∀ (rd' wt' : Int32) (c b4 b5 b6 b7 : Nat → Int32), gw_O n m E rd' a1 a2 c → ¬ rd' = 0 → post (nI n, nI m, rd', wt', a1, a2, c, b4, b5, b6, b7)) :
    wpX_findPolynomial post (nI n, nI m, rd, wt, a1, a2, a3, a4, a5, a6, a7) := by
  obtain ⟨hn, hl, hm, hE, hA, hT⟩ := O
  subst hl
  unfold wpX_findPolynomial
  refine br_c (fun _ => ?_) (fun z => H _ _ _ _ _ _ _ ⟨hn, rfl, hm, hE, hA, hT⟩ z)
  have hK : 2 ^ E.length - 1 < 256 := by
    have t : 2 ^ E.length ≤ 2 ^ 8 := Nat.pow_le_pow_right (by decide) hm
    omega
  have hp := Nat.two_pow_pos E.length
  refine pk_loop (fun N i s => wX_findPolynomial_15 post (nI n) (nI E.length) 1 wt N (nI i) a1 a2 s a4 a5 a6 a7) (fun i s => ∀ j, j < i → s j = 0) 81 0 a3 (by omega) (fun j hj => absurd hj (by omega)) ?_ ?_
  · intro N s hs
    refine pk_le 81 81 (fun _ => ?_) (fun z => absurd z (by omega))
    refine gw_start hn (fun W hW h => ?_)
    rw [tu_all _ (by omega)]
    refine gw_push (w := 0) (x := 0) (y := 0) rfl rfl (by omega) hK (by omega) (by omega) ?_
    refine ⟨gw_mu E [(2 ^ E.length - 1, W, 0, 0)] + 1, gw_59 hn hm hE hA (fun w c b4 b5 b6 b7 hc => H 1 w c b4 b5 b6 b7 ⟨hn, rfl, hm, hE, hA, fun _ => hc⟩ (by decide)) _ [(2 ^ E.length - 1, W, 0, 0)] s _ _ _ _ (gw_Sp (st := []) _ _ _ _ trivial) ⟨⟨by omega, hW, ?_, ?_⟩, trivial⟩ (Nat.lt_succ_self _) (fun i j hi hj => ?_)⟩
    · rw [tu_sel_full]
      exact hm
    · rw [tu_sel_full]
      omega
    · rw [hs _ (by omega)]
      show (0 : Int32) + nI (tu_sh 0 0 (tu_T (tu_sel (2 ^ E.length - 1) E) (tu_pt W)) i j + 0) = _
      rw [tu_sel_full, tu_sh0, tu_Tcg (g := id) hE h]
      show (0 : Int32) + nI (tu_T E id i j) = _
      grind
  · intro N i s hi hs hw
    refine pk_le 81 i (fun z => absurd z (by omega)) (fun _ => ⟨pk_in i 81 hi, nm_e (nm_r (nI_1 i) (hw _ (fun j hj => ?_)))⟩)
    rw [nI_clamp (show i < 2 ^ 31 by omega)]
    by_cases e : j = i
    · rw [e, pk_us]
    · rw [pk_un e]
      exact hs j (by omega)
end
end
section
/-! the walks over the answers: valueAt, trees, acyclic, colourings, flows, coefficient, parts -/
section
variable {a1 a2 a3 a4 a5 a6 a7 : Nat → Int32} {n m : Nat} {E : List (Nat × Nat)} {rd wt : Int32}
theorem gw_tab (O : gw_O n m E rd a1 a2 a3) (h : ¬ rd = 0) {i j : Nat} (hi : i < 9) (hj : j < 9) : a3 (9 * i + j) = nI (tu_T E id i j) := O.2.2.2.2.2 h i j hi hj
theorem gw_12 {post : Int32 → St2 → Prop} {x y : Int32} (O : gw_O n m E rd a1 a2 a3) (h : ¬ rd = 0) (H : post (tu_ev (tu_T E id) x y) (nI n, nI m, rd, wt, a1, a2, a3, a4, a5, a6, a7)) :
    ∃ fu, wX_valueAt_12 post x y (nI n) (nI m) rd wt a1 a2 a3 a4 a5 a6 a7 fu 0 1 0 := by
  refine pk_loop (fun N i s => wX_valueAt_12 post x y (nI n) (nI m) rd wt a1 a2 a3 a4 a5 a6 a7 N s.1 s.2 (nI i)) (fun i s => s = (tu_sm (tu_rows (tu_T E id) x y) i, tu_pw x i)) 9 0 (0, 1) (by omega) rfl ?_ ?_
  · rintro N s rfl
    exact pk_le 9 9 (fun _ => H) (fun z => absurd z (by omega))
  · rintro N i s hi rfl hw
    refine pk_le 9 i (fun z => absurd z (by omega)) (fun _ => ?_)
    refine pk_loop (fun M j s => wX_valueAt_26 post (wX_valueAt_12 post x y (nI n) (nI m) rd wt a1 a2 a3 a4 a5 a6 a7 N) x y (tu_pw x i) (nI i) (nI n) (nI m) rd wt a1 a2 a3 a4 a5 a6 a7 M s.1 s.2 (nI j)) (fun j s => s = (tu_sm (tu_rows (tu_T E id) x y) i + tu_sm (tu_row (tu_T E id) x y i) j, tu_pw x i * tu_pw y j)) 9 0 (tu_sm (tu_rows (tu_T E id) x y) i, tu_pw x i) (by omega) ?_ ?_ ?_
    · show (tu_sm (tu_rows (tu_T E id) x y) i, tu_pw x i) = (tu_sm (tu_rows (tu_T E id) x y) i + 0, tu_pw x i * 1)
      rw [Int32.add_zero, Int32.mul_one]
    · rintro M s rfl
      exact pk_le 9 9 (fun _ => nm_e (nm_r (nI_1 i) (hw (_, _) rfl))) (fun z => absurd z (by omega))
    · rintro M j s hj rfl hv
      have e9 := gw_9 i j
      refine pk_le 9 j (fun z => absurd z (by omega)) (fun _ => ⟨pk_in (9 * i + j) 81 (by omega) e9, nm_e (nm_e (nm_r (nI_1 j) (hv (_, _) ?_)))⟩)
      rw [e9, nI_clamp (show 9 * i + j < 2 ^ 31 by omega), gw_tab O h hi hj, Int32.add_assoc, Int32.mul_assoc]
      rfl
theorem gw_val {post : Int32 → St2 → Prop} {x y : Int32} (O : gw_O n m E rd a1 a2 a3)
    (H : ∀ (rd' wt' : Int32) (c b4 b5 b6 b7 : Nat → Int32), gw_O n m E rd' a1 a2 c → post (tu_ev (tu_T E id) x y) (nI n, nI m, rd', wt', a1, a2, c, b4, b5, b6, b7)) :
    wpX_valueAt post (nI n, nI m, rd, wt, a1, a2, a3, a4, a5, a6, a7) x y := by
  unfold wpX_valueAt
  exact gw_find O (fun rd' wt' c b4 b5 b6 b7 O' h => gw_12 O' h (H rd' wt' c b4 b5 b6 b7 O'))
theorem gw_trees {post : Int32 → St2 → Prop} (O : gw_O n m E rd a1 a2 a3)
    (H : ∀ (rd' wt' : Int32) (c b4 b5 b6 b7 : Nat → Int32), gw_O n m E rd' a1 a2 c → post (tu_ev (tu_T E id) 1 1) (nI n, nI m, rd', wt', a1, a2, c, b4, b5, b6, b7)) :
    wpX_trees post (nI n, nI m, rd, wt, a1, a2, a3, a4, a5, a6, a7) := by
  unfold wpX_trees
  exact gw_val O H
theorem gw_acyclic {post : Int32 → St2 → Prop} (O : gw_O n m E rd a1 a2 a3)
    (H : ∀ (rd' wt' : Int32) (c b4 b5 b6 b7 : Nat → Int32), gw_O n m E rd' a1 a2 c → post (tu_ev (tu_T E id) 2 0) (nI n, nI m, rd', wt', a1, a2, c, b4, b5, b6, b7)) :
    wpX_acyclic post (nI n, nI m, rd, wt, a1, a2, a3, a4, a5, a6, a7) := by
  unfold wpX_acyclic
  exact gw_val O H
theorem gw_prt {post : Int32 → Prop} (O : gw_O n m E rd a1 a2 a3) (H : post (nI (n - tu_r E id))) : wpX_parts post (nI n, nI m, rd, wt, a1, a2, a3, a4, a5, a6, a7) := by
  obtain ⟨hn, hl, hm, hE, hA, hT⟩ := O
  subst hl
  exact gw_parts hn hm hE hA H
theorem gw_rn (O : gw_O n m E rd a1 a2 a3) : tu_r E id ≤ n ∧ tu_r E id ≤ m ∧ n ≤ 6 ∧ m ≤ 8 := by
  have t := tu_parts O.2.2.2.1
  have s := tu_rle E id
  have l := O.2.1
  exact ⟨by omega, by omega, O.1, O.2.2.1⟩
theorem gw_odd {r : Nat} (h : r < 2 ^ 31) : nI r &&& 1 = nI (r % 2) := pk_andN (by omega) 1 (by decide)
theorem gw_sg {A B : Prop} {x : Int32} {r : Nat} (hx : x = nI r) (hr : r < 2 ^ 31) (f : r % 2 = 0 → A) (g : ¬ r % 2 = 0 → B) : ((x &&& 1) = 0 → A) ∧ (¬ (x &&& 1) = 0 → B) := by
  subst hx
  rw [gw_odd hr]
  exact pk_eq (r % 2) 0 f g (ha := by omega)
theorem gw_col {post : Int32 → St2 → Prop} (k : Nat) (hk : k ≤ 6) (O : gw_O n m E rd a1 a2 a3)
    (H : ∀ (rd' wt' : Int32) (c b4 b5 b6 b7 : Nat → Int32), gw_O n m E rd' a1 a2 c → post (tu_cl n (tu_r E id) (tu_T E id) (nI k)) (nI n, nI m, rd', wt', a1, a2, c, b4, b5, b6, b7)) :
    wpX_colourings post (nI n, nI m, rd, wt, a1, a2, a3, a4, a5, a6, a7) (nI k) := by
  have R := gw_rn O
  unfold wpX_colourings
  refine pk_lt k 0 (fun z => absurd z (by omega)) (fun _ => pk_le k 6 (fun _ => ?_) (fun z => absurd z (by omega)))
  refine gw_prt O (gw_val O (fun rd' wt' c b4 b5 b6 b7 O' => ?_))
  refine pk_loop (fun N i s => wX_colourings_29 post (nI k) (nI (n - tu_r E id)) (nI n) (nI m) rd' wt' a1 a2 c b4 b5 b6 b7 N s (nI i)) (fun i s => s = tu_ev (tu_T E id) (1 - nI k) 0 * tu_pw (nI k) i) (n - tu_r E id) 0 (tu_ev (tu_T E id) (1 - nI k) 0) (by omega) ?_ ?_ ?_
  · show tu_ev (tu_T E id) (1 - nI k) 0 = tu_ev (tu_T E id) (1 - nI k) 0 * 1
    rw [Int32.mul_one]
  · rintro N s rfl
    have h := H rd' wt' c b4 b5 b6 b7 O'
    unfold tu_cl tu_sg at h
    refine pk_le (n - tu_r E id) (n - tu_r E id) (fun _ => ?_) (fun z => absurd z (by omega))
    refine gw_sg (r := tu_r E id) (by rw [pk_sub (by omega), show n - (n - tu_r E id) = tu_r E id by omega]) (by omega) (fun z => ?_) (fun z => ?_)
    · rw [if_pos z] at h
      exact h
    · rw [if_neg z] at h
      exact h
  · rintro N i s hi rfl hw
    exact pk_le (n - tu_r E id) i (fun z => absurd z (by omega)) (fun _ => nm_r (Int32.mul_assoc _ _ _) (nm_r (nI_1 i) (hw _ rfl)))
theorem gw_flow {post : Int32 → St2 → Prop} (k : Nat) (hk : k ≤ 4) (hk1 : 1 ≤ k) (O : gw_O n m E rd a1 a2 a3)
    (H : ∀ (rd' wt' : Int32) (c b4 b5 b6 b7 : Nat → Int32), gw_O n m E rd' a1 a2 c → post (tu_fl m (tu_r E id) (tu_T E id) (nI k)) (nI n, nI m, rd', wt', a1, a2, c, b4, b5, b6, b7)) :
    wpX_flows post (nI n, nI m, rd, wt, a1, a2, a3, a4, a5, a6, a7) (nI k) := by
  have R := gw_rn O
  unfold wpX_flows
  refine pk_lt k 1 (fun z => absurd z (by omega)) (fun _ => pk_le k 4 (fun _ => ?_) (fun z => absurd z (by omega)))
  refine gw_prt O (gw_val O (fun rd' wt' c b4 b5 b6 b7 O' => ?_))
  have h := H rd' wt' c b4 b5 b6 b7 O'
  unfold tu_fl tu_sg at h
  have e : nI m - nI n + nI (n - tu_r E id) = nI (m - tu_r E id) := by
    have e1 : nI n = nI (n - tu_r E id) + nI (tu_r E id) := by rw [nI_add, show n - tu_r E id + tu_r E id = n by omega]
    have e2 : nI m = nI (m - tu_r E id) + nI (tu_r E id) := by rw [nI_add, show m - tu_r E id + tu_r E id = m by omega]
    rw [e2, e1]
    grind
  refine gw_sg (r := m - tu_r E id) e (by omega) (fun z => ?_) (fun z => ?_)
  · rw [if_pos z] at h
    exact h
  · rw [if_neg z] at h
    exact h
theorem gw_coef {post : Int32 → St2 → Prop} {i j : Nat} {x y : Int32} (hx : x = nI i) (hy : y = nI j) (hi : i < 9) (hj : j < 9) (O : gw_O n m E rd a1 a2 a3)
    (H : ∀ (rd' wt' : Int32) (c b4 b5 b6 b7 : Nat → Int32), gw_O n m E rd' a1 a2 c → post (nI (tu_T E id i j)) (nI n, nI m, rd', wt', a1, a2, c, b4, b5, b6, b7)) :
    wpX_coefficient post (nI n, nI m, rd, wt, a1, a2, a3, a4, a5, a6, a7) x y := by
  subst hx hy
  unfold wpX_coefficient
  refine pk_lt i 0 (fun z => absurd z (by omega)) (fun _ => pk_lt 8 i (fun z => absurd z (by omega)) (fun _ => pk_lt j 0 (fun z => absurd z (by omega)) (fun _ => pk_le j 8 (fun _ => ?_) (fun z => absurd z (by omega)))))
  refine gw_find O (fun rd' wt' c b4 b5 b6 b7 O' h => ?_)
  have e9 := gw_9 i j
  have t := H rd' wt' c b4 b5 b6 b7 O'
  refine ⟨pk_in (9 * i + j) 81 (by omega) e9, ?_⟩
  rw [e9, nI_clamp (show 9 * i + j < 2 ^ 31 by omega), gw_tab O' h hi hj]
  exact t
end
end
section
/-! the walks over the changes: init, add, drop, merge -/
section
variable {a1 a2 a3 a4 a5 a6 a7 : Nat → Int32} {n m : Nat} {E : List (Nat × Nat)} {rd wt : Int32}
theorem gw_init {post : St2 → Prop} {mc ms : Nat} (hn : n ≤ 6) (h1 : 1 ≤ n) (hc : 7 ≤ mc) (hs : 145 ≤ ms)
    (H : post (nI n, nI 0, 0, 0, (fun _ => 0), (fun _ => 0), (fun _ => 0), (fun _ => 0), (fun _ => 0), (fun _ => 0), (fun _ => 0))) : wpX_init post mc ms (0, 0, 0, 0) (nI n) := by
  unfold wpX_init
  exact ⟨by omega, by omega, by omega, by omega, by omega, by omega, by omega, by omega, by omega, by omega, by omega, by omega, by omega, by omega, pk_le 1 n (fun _ => pk_le n 6 (fun _ => H) (fun z => absurd z (by omega))) (fun z => absurd z (by omega))⟩
theorem gw_O0 (hn : n ≤ 6) (a1 a2 a3 : Nat → Int32) : gw_O n 0 [] 0 a1 a2 a3 :=
  ⟨hn, rfl, by omega, fun e he => absurd he List.not_mem_nil, fun k g h => absurd h (by rw [List.getElem?_nil]; exact fun z => nomatch z), fun z => absurd rfl z⟩
theorem gw_add {post : Int32 → St2 → Prop} {u v : Nat} {p q : Int32} (hp : p = nI u) (hq : q = nI v) (hm : m < 8) (hu : u < n) (hv : v < n) (O : gw_O n m E rd a1 a2 a3)
    (H : ∀ b1 b2 : Nat → Int32, gw_O n (m + 1) (E ++ [(u, v)]) 0 b1 b2 a3 → post (nI (m + 1)) (nI n, nI (m + 1), 0, wt, b1, b2, a3, a4, a5, a6, a7)) :
    wpX_add post (nI n, nI m, rd, wt, a1, a2, a3, a4, a5, a6, a7) p q := by
  subst hp hq
  obtain ⟨hn, hl, _, hE, hA, hT⟩ := O
  unfold wpX_add
  refine pk_lt m 8 (fun _ => pk_lt u 0 (fun z => absurd z (by omega)) (fun _ => pk_le n u (fun z => absurd z (by omega)) (fun _ => pk_lt v 0 (fun z => absurd z (by omega)) (fun _ => pk_lt v n (fun _ => ⟨pk_in m 8 hm, nm_e ⟨pk_in m 8 hm, nm_e (nm_r (nI_1 m) (H _ _ ⟨hn, ?_, by omega, ?_, ?_, fun z => absurd rfl z⟩))⟩⟩) (fun z => absurd z (by omega)))))) (fun z => absurd z (by omega))
  · rw [List.length_append, hl]
    rfl
  · intro e he
    rcases List.mem_append.mp he with z | z
    · exact hE e z
    · rw [List.mem_singleton.mp z]
      exact ⟨hu, hv⟩
  · intro k g hk
    rw [nI_clamp (show m < 2 ^ 31 by omega), tu_i8 u (by omega), tu_i8 v (by omega)]
    by_cases c : k < m
    · rw [List.getElem?_append_left (by omega)] at hk
      rw [pk_un (show k ≠ m by omega), pk_un (show k ≠ m by omega)]
      exact hA k g hk
    · rw [List.getElem?_append_right (by omega)] at hk
      by_cases c2 : k = m
      · rw [c2, hl, Nat.sub_self] at hk
        have e : (u, v) = g := Option.some.inj hk
        rw [c2, pk_us, pk_us, ← e]
        exact ⟨rfl, rfl⟩
      · rw [List.getElem?_eq_none (by rw [List.length_singleton]; omega)] at hk
        exact absurd hk (fun z => nomatch z)
theorem gw_drop {post : Int32 → St2 → Prop} {k : Nat} {p : Int32} (hp : p = nI k) (hk : k < m) (O : gw_O n m E rd a1 a2 a3)
    (H : ∀ b1 b2 : Nat → Int32, gw_O n (m - 1) (E.eraseIdx k) 0 b1 b2 a3 → post (nI (m - 1)) (nI n, nI (m - 1), 0, wt, b1, b2, a3, a4, a5, a6, a7)) :
    wpX_drop post (nI n, nI m, rd, wt, a1, a2, a3, a4, a5, a6, a7) p := by
  subst hp
  obtain ⟨hn, hl, hm, hE, hA, hT⟩ := O
  have hlen : (E.eraseIdx k).length = m - 1 := by rw [List.length_eraseIdx_of_lt (by omega), hl]
  unfold wpX_drop
  refine pk_lt k 0 (fun z => absurd z (by omega)) (fun _ => pk_lt k m (fun _ => nm_r (pk_sub (b := 1) (by omega)) ?_) (fun z => absurd z (by omega)))
  refine pk_loop (fun N i s => wX_drop_26 post (nI n) (nI (m - 1)) rd wt N (nI i) s.1 s.2 a3 a4 a5 a6 a7) (fun i s => k ≤ i ∧ (∀ q g, q < i → (E.eraseIdx k)[q]? = some g → s.1 q = nI g.1 ∧ s.2 q = nI g.2) ∧ (∀ q, i ≤ q → s.1 q = a1 q ∧ s.2 q = a2 q)) (m - 1) k (a1, a2) (by omega) ⟨Nat.le_refl k, fun q g hq hg => ?_, fun q _ => ⟨rfl, rfl⟩⟩ ?_ ?_
  · rw [List.getElem?_eraseIdx_of_lt hq] at hg
    exact hA q g hg
  · rintro N s ⟨_, h1, _⟩
    refine pk_le (m - 1) (m - 1) (fun _ => H _ _ ⟨hn, hlen, by omega, fun e he => hE e (List.mem_of_mem_eraseIdx he), fun q g hg => ?_, fun z => absurd rfl z⟩) (fun z => absurd z (by omega))
    by_cases c : q < m - 1
    · exact h1 q g c hg
    · rw [List.getElem?_eq_none (by omega)] at hg
      exact absurd hg (fun z => nomatch z)
  · rintro N i s hi ⟨h0, h1, h2⟩ hw
    have hi1 : i + 1 < E.length := by omega
    have hgs : E[i + 1]? = some E[i + 1] := List.getElem?_eq_getElem hi1
    generalize E[i + 1] = g at hgs
    have hg := hA (i + 1) g hgs
    have hgn := hE g (List.mem_of_getElem? hgs)
    have hg1 : g.1 < n := hgn.1
    have hg2 : g.2 < n := hgn.2
    have e1 := (h2 (i + 1) (by omega)).1
    have e2 := (h2 (i + 1) (by omega)).2
    refine pk_le (m - 1) i (fun z => absurd z (by omega)) (fun _ => ⟨pk_in (i + 1) 8 (by omega) (nI_1 i), pk_in i 8 (by omega), nm_e ⟨pk_in (i + 1) 8 (by omega) (nI_1 i), pk_in i 8 (by omega), nm_e (nm_r (nI_1 i) (hw (_, _) ?_))⟩⟩)
    rw [nI_1, nI_clamp (show i < 2 ^ 31 by omega), nI_clamp (show i + 1 < 2 ^ 31 by omega), e1, e2, hg.1, hg.2, tu_nb (by omega), tu_nb (by omega)]
    refine ⟨by omega, fun q g' hq hg' => ?_, fun q hq => ?_⟩
    · by_cases c : q = i
      · rw [c, List.getElem?_eraseIdx_of_ge h0, hgs] at hg'
        have e : g = g' := Option.some.inj hg'
        show upd s.1 i (nI g.1) q = nI g'.1 ∧ upd s.2 i (nI g.2) q = nI g'.2
        rw [c, pk_us, pk_us, e]
        exact ⟨rfl, rfl⟩
      · show upd s.1 i (nI g.1) q = nI g'.1 ∧ upd s.2 i (nI g.2) q = nI g'.2
        rw [pk_un c, pk_un c]
        exact h1 q g' (by omega) hg'
    · show upd s.1 i (nI g.1) q = a1 q ∧ upd s.2 i (nI g.2) q = a2 q
      rw [pk_un (show q ≠ i by omega), pk_un (show q ≠ i by omega)]
      exact h2 q (by omega)
/-- all ends hi renamed to lo -/
def gw_re (lo hi t : Nat) : Nat := if t = hi then lo else t
theorem gw_61 {post : Int32 → St2 → Prop} {lo hi : Nat} (hlo : lo < n) (hhi : hi < n) (O : gw_O n m E 0 a1 a2 a3)
    (H : ∀ b1 b2 : Nat → Int32, gw_O n m (E.map (tu_m (gw_re lo hi))) 0 b1 b2 a3 → post (nI m) (nI n, nI m, 0, wt, b1, b2, a3, a4, a5, a6, a7)) :
    ∃ fu, wX_merge_61 post (nI lo) (nI hi) (nI n) (nI m) 0 wt fu 0 a1 a2 a3 a4 a5 a6 a7 := by
  obtain ⟨hn, hl, hm, hE, hA, hT⟩ := O
  refine pk_loop (fun N i s => wX_merge_61 post (nI lo) (nI hi) (nI n) (nI m) 0 wt N (nI i) s.1 s.2 a3 a4 a5 a6 a7) (fun i s => (∀ q g, q < i → E[q]? = some g → s.1 q = nI (gw_re lo hi g.1) ∧ s.2 q = nI (gw_re lo hi g.2)) ∧ (∀ q, i ≤ q → s.1 q = a1 q ∧ s.2 q = a2 q)) m 0 (a1, a2) (by omega) ⟨fun q g hq => absurd hq (by omega), fun q _ => ⟨rfl, rfl⟩⟩ ?_ ?_
  · rintro N s ⟨h1, _⟩
    refine pk_le m m (fun _ => H _ _ ⟨hn, by rw [List.length_map, hl], hm, fun e he => ?_, fun q g hg => ?_, fun z => absurd rfl z⟩) (fun z => absurd z (by omega))
    · obtain ⟨x, hx, e'⟩ := List.mem_map.mp he
      have t := hE x hx
      rw [← e']
      have t1 : x.1 < n := t.1
      have t2 : x.2 < n := t.2
      show gw_re lo hi x.1 < n ∧ gw_re lo hi x.2 < n
      unfold gw_re
      exact ⟨by split <;> omega, by split <;> omega⟩
    · rw [List.getElem?_map] at hg
      obtain ⟨x, hx, e'⟩ := Option.map_eq_some_iff.mp hg
      have hq : q < m := by
        rcases Nat.lt_or_ge q m with z | z
        · exact z
        · rw [List.getElem?_eq_none (by omega)] at hx
          exact absurd hx (fun z => nomatch z)
      rw [← e']
      exact h1 q x hq hx
  · rintro N i s hi' ⟨h1, h2⟩ hw
    have hgs : E[i]? = some E[i] := List.getElem?_eq_getElem (by omega)
    generalize E[i] = g at hgs
    have hg := hA i g hgs
    have hgn := hE g (List.mem_of_getElem? hgs)
    have hg1 : g.1 < n := hgn.1
    have hg2 : g.2 < n := hgn.2
    have cl := nI_clamp (show i < 2 ^ 31 by omega)
    have e1 : s.1 i = nI g.1 := by rw [(h2 i (Nat.le_refl i)).1, hg.1]
    have e2 : s.2 i = nI g.2 := by rw [(h2 i (Nat.le_refl i)).2, hg.2]
    have lo8 := tu_i8 lo (by omega)
    have st2 : ∀ b1 : Nat → Int32, b1 i = nI (gw_re lo hi g.1) → (∀ q, q ≠ i → b1 q = s.1 q) → wX_merge_92 post (wX_merge_61 post (nI lo) (nI hi) (nI n) (nI m) 0 wt N) (nI lo) (nI hi) (nI i) (nI n) (nI m) 0 wt b1 s.2 a3 a4 a5 a6 a7 := by
      intro b1 hb hb'
      have fin : ∀ b2 : Nat → Int32, b2 i = nI (gw_re lo hi g.2) → (∀ q, q ≠ i → b2 q = s.2 q) → wX_merge_61 post (nI lo) (nI hi) (nI n) (nI m) 0 wt N (nI (i + 1)) b1 b2 a3 a4 a5 a6 a7 := by
        intro b2 hc hc'
        refine hw (b1, b2) ⟨fun q g' hq hg' => ?_, fun q hq => ?_⟩
        · by_cases c : q = i
          · rw [c, hgs] at hg'
            have e : g = g' := Option.some.inj hg'
            rw [c, ← e]
            exact ⟨hb, hc⟩
          · show b1 q = _ ∧ b2 q = _
            rw [hb' q c, hc' q c]
            exact h1 q g' (by omega) hg'
        · show b1 q = _ ∧ b2 q = _
          rw [hb' q (by omega), hc' q (by omega)]
          exact h2 q (by omega)
      unfold wX_merge_92
      refine ⟨pk_in i 8 (by omega), ?_⟩
      rw [cl, e2, lo8]
      refine pk_eq g.2 hi (fun z => ⟨pk_in i 8 (by omega), nm_e (nm_r (nI_1 i) (fin _ ?_ (fun q hq => pk_un hq)))⟩) (fun z => nm_r (nI_1 i) (fin _ ?_ (fun q _ => rfl)))
      · rw [pk_us]
        unfold gw_re
        rw [if_pos z]
      · rw [e2]
        unfold gw_re
        rw [if_neg z]
    refine pk_le m i (fun z => absurd z (by omega)) (fun _ => ⟨pk_in i 8 (by omega), ?_⟩)
    rw [cl, e1, lo8]
    refine pk_eq g.1 hi (fun z => ⟨pk_in i 8 (by omega), nm_e (st2 _ ?_ (fun q hq => pk_un hq))⟩) (fun z => st2 _ ?_ (fun q _ => rfl))
    · rw [pk_us]
      unfold gw_re
      rw [if_pos z]
    · rw [e1]
      unfold gw_re
      rw [if_neg z]
theorem gw_merge {post : Int32 → St2 → Prop} {k : Nat} {g : Nat × Nat} {p : Int32} (hp : p = nI k) (hg : E[k]? = some g) (O : gw_O n m E rd a1 a2 a3)
    (H : ∀ b1 b2 : Nat → Int32, gw_O n (m - 1) ((E.eraseIdx k).map (tu_m (tu_j id g))) 0 b1 b2 a3 → post (nI (m - 1)) (nI n, nI (m - 1), 0, wt, b1, b2, a3, a4, a5, a6, a7)) :
    wpX_merge post (nI n, nI m, rd, wt, a1, a2, a3, a4, a5, a6, a7) p := by
  subst hp
  have hab := O.2.2.2.2.1 k g hg
  have hgn := O.2.2.2.1 g (List.mem_of_getElem? hg)
  have g1 : g.1 < n := hgn.1
  have g2 : g.2 < n := hgn.2
  have hn := O.1
  have hm := O.2.2.1
  have hk : k < m := by
    rcases Nat.lt_or_ge k m with z | z
    · exact z
    · rw [List.getElem?_eq_none (by rw [O.2.1]; exact z)] at hg
      exact absurd hg (fun z => nomatch z)
  have cl := nI_clamp (show k < 2 ^ 31 by omega)
  have ea : a1 (nI k).toNatClampNeg = nI g.1 := by rw [cl]; exact hab.1
  have eb : a2 (nI k).toNatClampNeg = nI g.2 := by rw [cl]; exact hab.2
  unfold wpX_merge
  refine pk_lt k 0 (fun z => absurd z (by omega)) (fun _ => pk_lt k m (fun _ => ⟨pk_in k 8 (by omega), nm_r ea ⟨pk_in k 8 (by omega), nm_r eb (pk_le g.2 g.1 (fun z => ?_) (fun z => ?_))⟩⟩) (fun z => absurd z (by omega)))
  · unfold wX_merge_38
    refine pk_le g.2 g.1 (fun _ => ?_) (fun y => absurd y (by omega))
    unfold wX_merge_50
    refine gw_drop rfl hk O (fun b1 b2 O' => gw_61 g2 g1 O' (fun c1 c2 O'' => H c1 c2 ?_))
    have e : gw_re g.2 g.1 = tu_j id g := by
      funext t
      show (if t = g.1 then g.2 else t) = if t = max g.1 g.2 then min g.1 g.2 else t
      rw [Nat.max_eq_left z, Nat.min_eq_right z]
    rw [← e]
    exact O''
  · unfold wX_merge_38
    refine pk_le g.2 g.1 (fun y => absurd y (by omega)) (fun _ => ?_)
    unfold wX_merge_50
    refine gw_drop rfl hk O (fun b1 b2 O' => gw_61 g1 g2 O' (fun c1 c2 O'' => H c1 c2 ?_))
    have e : gw_re g.1 g.2 = tu_j id g := by
      funext t
      show (if t = g.2 then g.1 else t) = if t = max g.1 g.2 then min g.1 g.2 else t
      rw [Nat.max_eq_right (by omega), Nat.min_eq_left (by omega)]
    rw [← e]
    exact O''
end
end
section
/-! the law's split: deletion and contraction of the last edge -/
section
abbrev gw_J3 : Type := Int32 → Int32 → Int32 → Int32 → Int32 → (Nat → Int32) → (Nat → Int32) → (Nat → Int32) → (Nat → Int32) → (Nat → Int32) → (Nat → Int32) → (Nat → Int32) → Int32 → Int32 → Int32 → Int32 → (Nat → Int32) → (Nat → Int32) → (Nat → Int32) → (Nat → Int32) → (Nat → Int32) → (Nat → Int32) → (Nat → Int32) → Int32 → Int32 → Int32 → Int32 → (Nat → Int32) → (Nat → Int32) → (Nat → Int32) → (Nat → Int32) → (Nat → Int32) → (Nat → Int32) → (Nat → Int32) → Prop
/-- what the split may lean on: the flags and what they say -/
def gw_M (n l : Nat) (EX EY EZ : List (Nat × Nat)) (fl fb : Int32) : Prop :=
  (fl = 1 ∧ tu_T EX id = tu_sh 0 1 (tu_T EY id) ∧ tu_cl n (tu_r EX id) (tu_T EX id) 4 = tu_cl n (tu_r EY id) (tu_T EY id) 4 - tu_cl n (tu_r EY id) (tu_T EY id) 4 ∧ tu_fl (l + 1) (tu_r EX id) (tu_T EX id) 3 = 2 * tu_fl l (tu_r EY id) (tu_T EY id) 3) ∨
  (fl = 0 ∧ ((fb = 0 ∧ tu_T EX id = tu_ad (tu_T EY id) (tu_T EZ id)) ∨ (fb = 1 ∧ tu_T EX id = tu_sh 1 0 (tu_T EZ id))) ∧ tu_cl n (tu_r EX id) (tu_T EX id) 4 = tu_cl n (tu_r EY id) (tu_T EY id) 4 - tu_cl n (tu_r EZ id) (tu_T EZ id) 4 / 4 ∧ tu_fl (l + 1) (tu_r EX id) (tu_T EX id) 3 = tu_fl l (tu_r EZ id) (tu_T EZ id) 3 - tu_fl l (tu_r EY id) (tu_T EY id) 3)
/-- the three graphs of a split: L with the last edge (p, q), L, L with (p, q) contracted -/
def gw_D (l p q : Nat) (L EX EY EZ : List (Nat × Nat)) : Prop :=
  EX = L ++ [(p, q)] ∧ l ≤ 7 ∧ EY.length = l ∧ EZ.length = l ∧ tu_T EY id = tu_T L id ∧ tu_r EY id = tu_r L id ∧ tu_T EZ id = tu_T L (tu_j id (p, q)) ∧ tu_r EZ id = tu_r L (tu_j id (p, q))
theorem gw_Ml {n l p q : Nat} {fb : Int32} {L EX EY EZ : List (Nat × Nat)} (D : gw_D l p q L EX EY EZ) (h : p = q) : gw_M n l EX EY EZ 1 fb ∧ tu_r EX id = tu_r EY id := by
  obtain ⟨dX, dl, dY, dZ, yT, yr, zT, zr⟩ := D
  have hT : tu_T EX id = tu_sh 0 1 (tu_T EY id) := by
    rw [dX, yT]
    exact (tu_M (p, q) L id).1 h
  have hr : tu_r EX id = tu_r EY id := by
    rw [dX, yr]
    exact (tu_rM (p, q) L id).1 h
  have h8 : ∀ i, i < 9 → tu_T EY id i 8 = 0 := fun i _ => tu_deg EY id i 8 (by omega)
  have hle := tu_rle EY id
  refine ⟨Or.inl ⟨rfl, hT, ?_, ?_⟩, hr⟩
  · rw [hr, hT]
    exact tu_lc h8
  · rw [hr, hT]
    exact tu_lf h8 (by omega)
theorem gw_Mn {n l p q : Nat} {L EX EY EZ : List (Nat × Nat)} (D : gw_D l p q L EX EY EZ) (hn : n ≤ 6) (hin : tu_in (fun p => p < n) EX) (h : ¬ p = q) : (tu_r EX id = tu_r EY id ∧ gw_M n l EX EY EZ 0 0) ∨ (tu_r EX id = tu_r EY id + 1 ∧ gw_M n l EX EY EZ 0 1) := by
  obtain ⟨dX, dl, dY, dZ, yT, yr, zT, zr⟩ := D
  have hpar := tu_parts hin
  have hrX : tu_r EX id = tu_r EZ id + 1 := by
    rw [dX, zr]
    exact (tu_rM (p, q) L id).2 h
  have hq := tu_cl4 (n := n) (L := EZ) (f := id) hn (by omega) (by omega)
  have h8 : ∀ j, j < 9 → tu_T EZ id 8 j = 0 := fun j _ => tu_deg EZ id 8 j (by omega)
  by_cases d : tu_d L id (p, q).1 = tu_d L id (p, q).2
  · have hrY : tu_r EX id = tu_r EY id := by
      rw [dX, yr]
      exact (tu_rD (p, q) L id).1 d
    have hT : tu_T EX id = tu_ad (tu_T EY id) (tu_T EZ id) := by
      rw [dX, yT, zT]
      exact (tu_M (p, q) L id).2.1 h d
    have hle := tu_rle EY id
    refine Or.inl ⟨hrY, Or.inr ⟨rfl, Or.inl ⟨rfl, hT⟩, ?_, ?_⟩⟩
    · rw [← hrY, hrX, hT]
      exact tu_oc (by omega) hq
    · rw [← hrY, hrX, hT]
      exact tu_of (by omega)
  · have hrY : tu_r EX id = tu_r EY id + 1 := by
      rw [dX, yr]
      exact (tu_rD (p, q) L id).2 d
    have hT : tu_T EX id = tu_sh 1 0 (tu_T EZ id) := by
      rw [dX, zT]
      exact (tu_M (p, q) L id).2.2 h d
    have hYZ : tu_T EY id = tu_T EZ id := by
      rw [yT, zT]
      exact (tu_B (p, q) L id d).symm
    have hrr : tu_r EY id = tu_r EZ id := by omega
    refine Or.inr ⟨hrY, Or.inr ⟨rfl, Or.inr ⟨rfl, hT⟩, ?_, ?_⟩⟩
    · rw [hrX, hT, hYZ, hrr]
      exact tu_bc h8 (by omega) hq
    · rw [hrX, hT, hYZ, hrr]
      exact tu_bf h8
variable {n mx my mz : Nat} {EX EY EZ : List (Nat × Nat)} {p1 p2 q1 q2 s1 s2 : Nat → Int32}
theorem gw_128 {post : Int32 → St3 → Prop} {J34 J44 : gw_J3} {i j : Nat} {fl fb d : Int32} {pr pw : Int32} {p3 p4 p5 p6 p7 : Nat → Int32} {qr qw : Int32} {q3 q4 q5 q6 q7 : Nat → Int32} {sr sw : Int32} {s3 s4 s5 s6 s7 : Nat → Int32} (hi : i < 9) (hj : j < 9) (hd : nI (tu_T EX id i j) = d) (hX : gw_O n mx EX pr p1 p2 p3)
    (H : ∀ (pr' pw' : Int32) (p3' p4' p5' p6' p7' : Nat → Int32), gw_O n mx EX pr' p1 p2 p3' → J44 (nI (j + 1)) (nI n) (nI mx) pr' pw' p1 p2 p3' p4' p5' p6' p7' (nI n) (nI my) qr qw q1 q2 q3 q4 q5 q6 q7 (nI n) (nI mz) sr sw s1 s2 s3 s4 s5 s6 s7) : wL_split_128 post J34 J44 fl fb (nI i) (nI j) d (nI n) (nI mx) pr pw p1 p2 p3 p4 p5 p6 p7 (nI n) (nI my) qr qw q1 q2 q3 q4 q5 q6 q7 (nI n) (nI mz) sr sw s1 s2 s3 s4 s5 s6 s7 := by
  unfold wL_split_128
  exact gw_coef rfl rfl hi hj hX (fun pr' pw' p3' p4' p5' p6' p7' hX' => br_t hd (nm_r (nI_1 j) (H pr' pw' p3' p4' p5' p6' p7' hX')))
theorem gw_44 {post : Int32 → St3 → Prop} {J : gw_J3} {l i : Nat} {fl fb : Int32} (hi : i < 9) (M : gw_M n l EX EY EZ fl fb)
    (HJ : ∀ (pr pw : Int32) (p3 p4 p5 p6 p7 : Nat → Int32) (qr qw : Int32) (q3 q4 q5 q6 q7 : Nat → Int32) (sr sw : Int32) (s3 s4 s5 s6 s7 : Nat → Int32), gw_O n mx EX pr p1 p2 p3 → gw_O n my EY qr q1 q2 q3 → gw_O n mz EZ sr s1 s2 s3 → J (nI (i + 1)) (nI n) (nI mx) pr pw p1 p2 p3 p4 p5 p6 p7 (nI n) (nI my) qr qw q1 q2 q3 q4 q5 q6 q7 (nI n) (nI mz) sr sw s1 s2 s3 s4 s5 s6 s7) :
    ∀ (N j : Nat) (pr pw : Int32) (p3 p4 p5 p6 p7 : Nat → Int32) (qr qw : Int32) (q3 q4 q5 q6 q7 : Nat → Int32) (sr sw : Int32) (s3 s4 s5 s6 s7 : Nat → Int32), j ≤ 9 → 9 - j < N → gw_O n mx EX pr p1 p2 p3 → gw_O n my EY qr q1 q2 q3 → gw_O n mz EZ sr s1 s2 s3 → wL_split_44 post J fl fb (nI i) N (nI j) (nI n) (nI mx) pr pw p1 p2 p3 p4 p5 p6 p7 (nI n) (nI my) qr qw q1 q2 q3 q4 q5 q6 q7 (nI n) (nI mz) sr sw s1 s2 s3 s4 s5 s6 s7 := by
  intro N
  induction N with
  | zero => intro j pr pw p3 p4 p5 p6 p7 qr qw q3 q4 q5 q6 q7 sr sw s3 s4 s5 s6 s7 _ h; exact absurd h (Nat.not_lt_zero _)
  | succ N ih =>
    intro j pr pw p3 p4 p5 p6 p7 qr qw q3 q4 q5 q6 q7 sr sw s3 s4 s5 s6 s7 hj hN hX hY hZ
    by_cases c : j = 9
    · subst c
      exact pk_le 9 9 (fun _ => nm_r (nI_1 i) (HJ pr pw p3 p4 p5 p6 p7 qr qw q3 q4 q5 q6 q7 sr sw s3 s4 s5 s6 s7 hX hY hZ)) (fun z => absurd z (by omega))
    · refine pk_le 9 j (fun z => absurd z (by omega)) (fun _ => ?_)
      have hj9 : j < 9 := by omega
      have nx : ∀ (pr pw : Int32) (p3 p4 p5 p6 p7 : Nat → Int32) (qr qw : Int32) (q3 q4 q5 q6 q7 : Nat → Int32) (sr sw : Int32) (s3 s4 s5 s6 s7 : Nat → Int32), gw_O n mx EX pr p1 p2 p3 → gw_O n my EY qr q1 q2 q3 → gw_O n mz EZ sr s1 s2 s3 → wL_split_44 post J fl fb (nI i) N (nI (j + 1)) (nI n) (nI mx) pr pw p1 p2 p3 p4 p5 p6 p7 (nI n) (nI my) qr qw q1 q2 q3 q4 q5 q6 q7 (nI n) (nI mz) sr sw s1 s2 s3 s4 s5 s6 s7 := fun pr pw p3 p4 p5 p6 p7 qr qw q3 q4 q5 q6 q7 sr sw s3 s4 s5 s6 s7 => ih (j + 1) pr pw p3 p4 p5 p6 p7 qr qw q3 q4 q5 q6 q7 sr sw s3 s4 s5 s6 s7 (by omega) (by omega)
      rcases M with ⟨rfl, hT, _, _⟩ | ⟨rfl, ⟨rfl, hT⟩ | ⟨rfl, hT⟩, _, _⟩
      · refine br_f (by decide) (pk_le j 0 (fun z => ?_) (fun z => ?_))
        · refine gw_128 hi hj9 ?_ hX (fun pr' pw' p3' p4' p5' p6' p7' hX' => nx pr' pw' p3' p4' p5' p6' p7' qr qw q3 q4 q5 q6 q7 sr sw s3 s4 s5 s6 s7 hX' hY hZ)
          rw [hT, show tu_sh 0 1 (tu_T EY id) i j = 0 from if_neg (by omega)]
          rfl
        · refine gw_coef (j := j - 1) rfl (pk_sub (b := 1) (by omega)) hi (by omega) hY (fun qr' qw' q3' q4' q5' q6' q7' hY' => gw_128 hi hj9 ?_ hX (fun pr' pw' p3' p4' p5' p6' p7' hX' => nx pr' pw' p3' p4' p5' p6' p7' qr' qw' q3' q4' q5' q6' q7' sr sw s3 s4 s5 s6 s7 hX' hY' hZ))
          rw [hT, show tu_sh 0 1 (tu_T EY id) i j = tu_T EY id i (j - 1) from if_pos (by omega)]
      · refine br_t rfl (br_t rfl (gw_coef rfl rfl hi hj9 hY (fun qr' qw' q3' q4' q5' q6' q7' hY' => gw_coef rfl rfl hi hj9 hZ (fun sr' sw' s3' s4' s5' s6' s7' hZ' => nm_r (nI_add _ _) (gw_128 hi hj9 ?_ hX (fun pr' pw' p3' p4' p5' p6' p7' hX' => nx pr' pw' p3' p4' p5' p6' p7' qr' qw' q3' q4' q5' q6' q7' sr' sw' s3' s4' s5' s6' s7' hX' hY' hZ'))))))
        rw [hT]
        rfl
      · refine br_t rfl (br_f (by decide) (pk_le i 0 (fun z => ?_) (fun z => ?_)))
        · refine gw_128 hi hj9 ?_ hX (fun pr' pw' p3' p4' p5' p6' p7' hX' => nx pr' pw' p3' p4' p5' p6' p7' qr qw q3 q4 q5 q6 q7 sr sw s3 s4 s5 s6 s7 hX' hY hZ)
          rw [hT, show tu_sh 1 0 (tu_T EZ id) i j = 0 from if_neg (by omega)]
          rfl
        · refine gw_coef (i := i - 1) (pk_sub (b := 1) (by omega)) rfl (by omega) hj9 hZ (fun sr' sw' s3' s4' s5' s6' s7' hZ' => gw_128 hi hj9 ?_ hX (fun pr' pw' p3' p4' p5' p6' p7' hX' => nx pr' pw' p3' p4' p5' p6' p7' qr qw q3 q4 q5 q6 q7 sr' sw' s3' s4' s5' s6' s7' hX' hY hZ'))
          rw [hT, show tu_sh 1 0 (tu_T EZ id) i j = tu_T EZ id (i - 1) j from if_pos (by omega)]
theorem gw_181 {post : Int32 → St3 → Prop} {fl z0 : Int32} {pr pw : Int32} {p3 p4 p5 p6 p7 : Nat → Int32} {qr qw : Int32} {q3 q4 q5 q6 q7 : Nat → Int32} {sr sw : Int32} {s3 s4 s5 s6 s7 : Nat → Int32} (hc : tu_cl n (tu_r EX id) (tu_T EX id) 4 = tu_cl n (tu_r EY id) (tu_T EY id) 4 - z0)
    (hf : (fl = 0 ∧ tu_fl mx (tu_r EX id) (tu_T EX id) 3 = tu_fl mz (tu_r EZ id) (tu_T EZ id) 3 - tu_fl my (tu_r EY id) (tu_T EY id) 3) ∨ (¬ fl = 0 ∧ tu_fl mx (tu_r EX id) (tu_T EX id) 3 = 2 * tu_fl my (tu_r EY id) (tu_T EY id) 3))
    (hX : gw_O n mx EX pr p1 p2 p3) (hY : gw_O n my EY qr q1 q2 q3) (hZ : gw_O n mz EZ sr s1 s2 s3) (H : ∀ (pr pw : Int32) (p3 p4 p5 p6 p7 : Nat → Int32) (qr qw : Int32) (q3 q4 q5 q6 q7 : Nat → Int32) (sr sw : Int32) (s3 s4 s5 s6 s7 : Nat → Int32), gw_O n mx EX pr p1 p2 p3 → gw_O n my EY qr q1 q2 q3 → gw_O n mz EZ sr s1 s2 s3 → post 1 (nI n, nI mx, pr, pw, p1, p2, p3, p4, p5, p6, p7, nI n, nI my, qr, qw, q1, q2, q3, q4, q5, q6, q7, nI n, nI mz, sr, sw, s1, s2, s3, s4, s5, s6, s7)) : wL_split_181 post fl 4 z0 (nI n) (nI mx) pr pw p1 p2 p3 p4 p5 p6 p7 (nI n) (nI my) qr qw q1 q2 q3 q4 q5 q6 q7 (nI n) (nI mz) sr sw s1 s2 s3 s4 s5 s6 s7 := by
  unfold wL_split_181
  refine gw_col 4 (by omega) hX (fun pr' pw' p3' p4' p5' p6' p7' hX' => gw_col 4 (by omega) hY (fun qr' qw' q3' q4' q5' q6' q7' hY' => br_t hc (gw_flow 3 (by omega) (by omega) hX' (fun pr'' pw'' p3'' p4'' p5'' p6'' p7'' hX'' => ?_))))
  rcases hf with ⟨rfl, hf⟩ | ⟨hne, hf⟩
  · exact br_t rfl (gw_flow 3 (by omega) (by omega) hZ (fun sr' sw' s3' s4' s5' s6' s7' hZ' => gw_flow 3 (by omega) (by omega) hY' (fun qr'' qw'' q3'' q4'' q5'' q6'' q7'' hY'' => br_t hf (H pr'' pw'' p3'' p4'' p5'' p6'' p7'' qr'' qw'' q3'' q4'' q5'' q6'' q7'' sr' sw' s3' s4' s5' s6' s7' hX'' hY'' hZ'))))
  · exact br_f hne (gw_flow 3 (by omega) (by omega) hY' (fun qr'' qw'' q3'' q4'' q5'' q6'' q7'' hY'' => br_t hf (H pr'' pw'' p3'' p4'' p5'' p6'' p7'' qr'' qw'' q3'' q4'' q5'' q6'' q7'' sr sw s3 s4 s5 s6 s7 hX'' hY'' hZ)))
theorem gw_34 {post : Int32 → St3 → Prop} {l : Nat} {fl fb : Int32} (M : gw_M n l EX EY EZ fl fb) (H : ∀ (pr pw : Int32) (p3 p4 p5 p6 p7 : Nat → Int32) (qr qw : Int32) (q3 q4 q5 q6 q7 : Nat → Int32) (sr sw : Int32) (s3 s4 s5 s6 s7 : Nat → Int32), gw_O n (l + 1) EX pr p1 p2 p3 → gw_O n l EY qr q1 q2 q3 → gw_O n l EZ sr s1 s2 s3 → post 1 (nI n, nI (l + 1), pr, pw, p1, p2, p3, p4, p5, p6, p7, nI n, nI l, qr, qw, q1, q2, q3, q4, q5, q6, q7, nI n, nI l, sr, sw, s1, s2, s3, s4, s5, s6, s7)) :
    ∀ (N i : Nat) (pr pw : Int32) (p3 p4 p5 p6 p7 : Nat → Int32) (qr qw : Int32) (q3 q4 q5 q6 q7 : Nat → Int32) (sr sw : Int32) (s3 s4 s5 s6 s7 : Nat → Int32), i ≤ 9 → 9 - i < N → gw_O n (l + 1) EX pr p1 p2 p3 → gw_O n l EY qr q1 q2 q3 → gw_O n l EZ sr s1 s2 s3 → wL_split_34 post fl fb N (nI i) (nI n) (nI (l + 1)) pr pw p1 p2 p3 p4 p5 p6 p7 (nI n) (nI l) qr qw q1 q2 q3 q4 q5 q6 q7 (nI n) (nI l) sr sw s1 s2 s3 s4 s5 s6 s7 := by
  intro N
  induction N with
  | zero => intro i pr pw p3 p4 p5 p6 p7 qr qw q3 q4 q5 q6 q7 sr sw s3 s4 s5 s6 s7 _ h; exact absurd h (Nat.not_lt_zero _)
  | succ N ih =>
    intro i pr pw p3 p4 p5 p6 p7 qr qw q3 q4 q5 q6 q7 sr sw s3 s4 s5 s6 s7 hi hN hX hY hZ
    by_cases c : i = 9
    · subst c
      refine pk_le 9 9 (fun _ => ?_) (fun z => absurd z (by omega))
      rcases M with ⟨rfl, _, hc, hf⟩ | ⟨rfl, _, hc, hf⟩
      · exact br_f (by decide) (gw_col 4 (by omega) hY (fun qr' qw' q3' q4' q5' q6' q7' hY' => gw_181 hc (Or.inr ⟨by decide, hf⟩) hX hY' hZ H))
      · exact br_t rfl (gw_col 4 (by omega) hZ (fun sr' sw' s3' s4' s5' s6' s7' hZ' => ⟨by decide, gw_181 hc (Or.inl ⟨rfl, hf⟩) hX hY hZ' H⟩))
    · exact pk_le 9 i (fun z => absurd z (by omega)) (fun _ => ⟨10, gw_44 (by omega) M (fun pr' pw' p3' p4' p5' p6' p7' qr' qw' q3' q4' q5' q6' q7' sr' sw' s3' s4' s5' s6' s7' hX' hY' hZ' => ih (i + 1) pr' pw' p3' p4' p5' p6' p7' qr' qw' q3' q4' q5' q6' q7' sr' sw' s3' s4' s5' s6' s7' (by omega) (by omega) hX' hY' hZ') 10 0 pr pw p3 p4 p5 p6 p7 qr qw q3 q4 q5 q6 q7 sr sw s3 s4 s5 s6 s7 (by omega) (by omega) hX hY hZ⟩)
theorem gw_split {post : Int32 → St3 → Prop} {l p q : Nat} {L : List (Nat × Nat)} {pr pw : Int32} {p3 p4 p5 p6 p7 : Nat → Int32} {qr qw : Int32} {q3 q4 q5 q6 q7 : Nat → Int32} {sr sw : Int32} {s3 s4 s5 s6 s7 : Nat → Int32} (D : gw_D l p q L EX EY EZ) (hp : p < n) (hq : q < n) (hX : gw_O n (l + 1) EX pr p1 p2 p3) (hY : gw_O n l EY qr q1 q2 q3) (hZ : gw_O n l EZ sr s1 s2 s3) (H : ∀ (pr pw : Int32) (p3 p4 p5 p6 p7 : Nat → Int32) (qr qw : Int32) (q3 q4 q5 q6 q7 : Nat → Int32) (sr sw : Int32) (s3 s4 s5 s6 s7 : Nat → Int32), gw_O n (l + 1) EX pr p1 p2 p3 → gw_O n l EY qr q1 q2 q3 → gw_O n l EZ sr s1 s2 s3 → post 1 (nI n, nI (l + 1), pr, pw, p1, p2, p3, p4, p5, p6, p7, nI n, nI l, qr, qw, q1, q2, q3, q4, q5, q6, q7, nI n, nI l, sr, sw, s1, s2, s3, s4, s5, s6, s7)) :
    wpL_split post (nI n, nI (l + 1), pr, pw, p1, p2, p3, p4, p5, p6, p7, nI n, nI l, qr, qw, q1, q2, q3, q4, q5, q6, q7, nI n, nI l, sr, sw, s1, s2, s3, s4, s5, s6, s7) (nI p) (nI q) := by
  have hn := hX.1
  have hpar := tu_parts hX.2.2.2.1
  unfold wpL_split
  refine pk_eq p q (fun z => ?_) (fun z => ?_)
  · unfold wL_split_11
    obtain ⟨M, hr⟩ := gw_Ml (n := n) (fb := 0) D z
    refine gw_prt hX (gw_prt hY (pk_le (n - tu_r EY id) (n - tu_r EX id) (fun _ => ⟨10, ?_⟩) (fun y => absurd y (by omega))))
    exact gw_34 M H 10 0 pr pw p3 p4 p5 p6 p7 qr qw q3 q4 q5 q6 q7 sr sw s3 s4 s5 s6 s7 (by omega) (by omega) hX hY hZ
  · unfold wL_split_11
    rcases gw_Mn D hn hX.2.2.2.1 z with ⟨hr, M⟩ | ⟨hr, M⟩
    · refine gw_prt hX (gw_prt hY (pk_le (n - tu_r EY id) (n - tu_r EX id) (fun _ => ⟨10, ?_⟩) (fun y => absurd y (by omega))))
      exact gw_34 M H 10 0 pr pw p3 p4 p5 p6 p7 qr qw q3 q4 q5 q6 q7 sr sw s3 s4 s5 s6 s7 (by omega) (by omega) hX hY hZ
    · refine gw_prt hX (gw_prt hY (pk_le (n - tu_r EY id) (n - tu_r EX id) (fun y => absurd y (by omega)) (fun _ => ⟨10, ?_⟩)))
      exact gw_34 M H 10 0 pr pw p3 p4 p5 p6 p7 qr qw q3 q4 q5 q6 q7 sr sw s3 s4 s5 s6 s7 (by omega) (by omega) hX hY hZ
end
end
section
/-! the law: the mirrored graphs, the law's loops -/
section
abbrev gw_J4 : Type := Int32 → gw_J3
def gw_f (n p : Nat) : Nat := n - 1 - p
def gw_Y (n : Nat) (E : List (Nat × Nat)) : List (Nat × Nat) := E.map (tu_m (gw_f n))
def gw_Z (n : Nat) (E : List (Nat × Nat)) : List (Nat × Nat) := (gw_Y n E).map tu_sw
theorem gw_fR (n : Nat) : tu_R (fun p => p < n) (gw_f n) id id := by
  intro a b ha hb
  show a = b ↔ n - 1 - a = n - 1 - b
  have ha' : a < n := ha
  have hb' : b < n := hb
  omega
theorem gw_YT {n : Nat} {E : List (Nat × Nat)} (h : tu_in (fun p => p < n) E) : tu_T (gw_Y n E) id = tu_T E id := (tu_RT E h (gw_fR n)).symm
theorem gw_Yr {n : Nat} {E : List (Nat × Nat)} (h : tu_in (fun p => p < n) E) : tu_r (gw_Y n E) id = tu_r E id := (tu_Rr E h (gw_fR n)).symm
theorem gw_ZT {n : Nat} {E : List (Nat × Nat)} (h : tu_in (fun p => p < n) E) : tu_T (gw_Z n E) id = tu_T E id := (tu_Tsw _ _).trans (gw_YT h)
theorem gw_Zr {n : Nat} {E : List (Nat × Nat)} (h : tu_in (fun p => p < n) E) : tu_r (gw_Z n E) id = tu_r E id := (tu_rsw _ _).trans (gw_Yr h)
theorem gw_Ya (n : Nat) (E : List (Nat × Nat)) (u v : Nat) : gw_Y n (E ++ [(u, v)]) = gw_Y n E ++ [(n - 1 - u, n - 1 - v)] := by
  unfold gw_Y
  rw [List.map_append]
  rfl
theorem gw_Za (n : Nat) (E : List (Nat × Nat)) (u v : Nat) : gw_Z n (E ++ [(u, v)]) = gw_Z n E ++ [(n - 1 - v, n - 1 - u)] := by
  unfold gw_Z
  rw [gw_Ya, List.map_append]
  rfl
theorem gw_mapE {α β : Type} (f : α → β) (E : List α) : ∀ k, (E.eraseIdx k).map f = (E.map f).eraseIdx k := by
  induction E with
  | nil => intro k; rfl
  | cons e E ih =>
    intro k
    cases k with
    | zero => rfl
    | succ k =>
      show f e :: (E.eraseIdx k).map f = f e :: (E.map f).eraseIdx k
      rw [ih]
theorem gw_Ye (n : Nat) (E : List (Nat × Nat)) (k : Nat) : gw_Y n (E.eraseIdx k) = (gw_Y n E).eraseIdx k := gw_mapE _ E k
theorem gw_Ze (n : Nat) (E : List (Nat × Nat)) (k : Nat) : gw_Z n (E.eraseIdx k) = (gw_Z n E).eraseIdx k := by
  unfold gw_Z
  rw [gw_Ye, gw_mapE]
/-- the third graph after the merge: the first one with (p, q) contracted -/
theorem gw_ZM {n p q : Nat} {E : List (Nat × Nat)} (h : tu_in (fun p => p < n) E) (hp : p < n) (hq : q < n) :
    tu_T ((gw_Z n E).map (tu_m (tu_j id (n - 1 - p, n - 1 - q)))) id = tu_T E (tu_j id (p, q)) ∧ tu_r ((gw_Z n E).map (tu_m (tu_j id (n - 1 - p, n - 1 - q)))) id = tu_r E (tu_j id (p, q)) := by
  have R : tu_R (fun p => p < n) (gw_f n) (tu_j id (p, q)) (tu_j id (n - 1 - p, n - 1 - q)) := tu_Rj (e := (p, q)) (gw_fR n) hp hq
  have R2 : tu_R (fun _ => True) (tu_j id (n - 1 - p, n - 1 - q)) (tu_j id (n - 1 - p, n - 1 - q)) id := fun a b _ _ => Iff.rfl
  constructor
  · rw [← tu_RT (gw_Z n E) (fun _ _ => ⟨trivial, trivial⟩) R2]
    exact (tu_Tsw _ _).trans (tu_RT E h R).symm
  · rw [← tu_Rr (gw_Z n E) (fun _ _ => ⟨trivial, trivial⟩) R2]
    exact (tu_rsw _ _).trans (tu_Rr E h R).symm
theorem gw_mod (x : Int32) {d : Nat} (h0 : 0 < d) (hd : d < 2 ^ 31) : ∃ u, u < d ∧ (x &&& 255) - (x &&& 255) / nI d * nI d = nI u := by
  obtain ⟨j, hj, e⟩ := pk_andE x (m := 255) 8 (by decide)
  exact ⟨j % d, Nat.mod_lt _ h0, by rw [e, pk_rem (by omega) h0 hd]⟩
theorem gw_lt {L i : Nat} (hL : L ≤ 260) (hi : i ≤ 1000) : nI L - 3 < nI i ↔ L < i + 3 := by
  have e : (nI L - 3).toInt = (L : Int) - 3 := pk_sub_toInt (b := 3) (by omega) (by omega)
  rw [Int32.lt_iff_toInt_lt, e, nI_toInt (by omega)]
  omega
theorem gw_mir {n u : Nat} (hu : u < n) : nI n - 1 - nI u = nI (n - 1 - u) := by
  have e : nI n - 1 = nI (n - 1) := pk_sub (b := 1) (by omega)
  rw [e, pk_sub (by omega)]
variable {n : Nat} {post : Int32 → Prop} {L : Nat} {xs : Nat → Int32} {J : gw_J4} {x1 : Int32} {kc ks : Nat}
theorem gw_387 {i m : Nat} {E : List (Nat × Nat)} {pr pw : Int32} {p1 p2 p3 p4 p5 p6 p7 : Nat → Int32} {qr qw : Int32} {q1 q2 q3 q4 q5 q6 q7 : Nat → Int32} {sr sw : Int32} {s1 s2 s3 s4 s5 s6 s7 : Nat → Int32} (hX : gw_O n m E pr p1 p2 p3) (hY : gw_O n m (gw_Y n E) qr q1 q2 q3) (hZ : gw_O n m (gw_Z n E) sr s1 s2 s3) (H : ∀ (pr pw : Int32) (p3 p4 p5 p6 p7 : Nat → Int32) (qr qw : Int32) (q3 q4 q5 q6 q7 : Nat → Int32) (sr sw : Int32) (s3 s4 s5 s6 s7 : Nat → Int32), gw_O n m E pr p1 p2 p3 → gw_O n m (gw_Y n E) qr q1 q2 q3 → gw_O n m (gw_Z n E) sr s1 s2 s3 → J (nI m) (nI (i + 3)) (nI n) (nI m) pr pw p1 p2 p3 p4 p5 p6 p7 (nI n) (nI m) qr qw q1 q2 q3 q4 q5 q6 q7 (nI n) (nI m) sr sw s1 s2 s3 s4 s5 s6 s7) :
    wL_law_387 post L xs J x1 (nI m) (nI i) kc ks (nI n) (nI m) pr pw p1 p2 p3 p4 p5 p6 p7 (nI n) (nI m) qr qw q1 q2 q3 q4 q5 q6 q7 (nI n) (nI m) sr sw s1 s2 s3 s4 s5 s6 s7 := by
  have hE := hX.2.2.2.1
  unfold wL_law_387
  exact gw_trees hX (fun pr' pw' p3' p4' p5' p6' p7' hX' => gw_trees hY (fun qr' qw' q3' q4' q5' q6' q7' hY' => br_t (by rw [gw_YT hE]) (gw_acyclic hX' (fun pr'' pw'' p3'' p4'' p5'' p6'' p7'' hX'' => gw_acyclic hZ (fun sr' sw' s3' s4' s5' s6' s7' hZ' => br_t (by rw [gw_ZT hE]) (gw_col 5 (by omega) hY' (fun qr'' qw'' q3'' q4'' q5'' q6'' q7'' hY'' => gw_col 5 (by omega) hZ' (fun sr'' sw'' s3'' s4'' s5'' s6'' s7'' hZ'' => br_t (by rw [gw_YT hE, gw_Yr hE, gw_ZT hE, gw_Zr hE]) (nm_r (nI_add i 3) (H pr'' pw'' p3'' p4'' p5'' p6'' p7'' qr'' qw'' q3'' q4'' q5'' q6'' q7'' sr'' sw'' s3'' s4'' s5'' s6'' s7'' hX'' hY'' hZ''))))))))))
theorem gw_337 {i : Nat} (H0 : ∀ (pr pw : Int32) (p1 p2 p3 p4 p5 p6 p7 : Nat → Int32) (qr qw : Int32) (q1 q2 q3 q4 q5 q6 q7 : Nat → Int32) (sr sw : Int32) (s1 s2 s3 s4 s5 s6 s7 : Nat → Int32), gw_O n 0 ([]) pr p1 p2 p3 → gw_O n 0 ([]) qr q1 q2 q3 → gw_O n 0 ([]) sr s1 s2 s3 → J (nI 0) (nI (i + 3)) (nI n) (nI 0) pr pw p1 p2 p3 p4 p5 p6 p7 (nI n) (nI 0) qr qw q1 q2 q3 q4 q5 q6 q7 (nI n) (nI 0) sr sw s1 s2 s3 s4 s5 s6 s7) :
    ∀ (N c : Nat) (E F G : List (Nat × Nat)) (t : Int32) (pr pw : Int32) (p1 p2 p3 p4 p5 p6 p7 : Nat → Int32) (qr qw : Int32) (q1 q2 q3 q4 q5 q6 q7 : Nat → Int32) (sr sw : Int32) (s1 s2 s3 s4 s5 s6 s7 : Nat → Int32), t = nI c - 1 → c < N → gw_O n c E pr p1 p2 p3 → gw_O n c F qr q1 q2 q3 → gw_O n c G sr s1 s2 s3 → wL_law_337 post L xs J x1 (nI i) kc ks N t (nI n) (nI c) pr pw p1 p2 p3 p4 p5 p6 p7 (nI n) (nI c) qr qw q1 q2 q3 q4 q5 q6 q7 (nI n) (nI c) sr sw s1 s2 s3 s4 s5 s6 s7 := by
  intro N
  induction N with
  | zero => intro c E F G t pr pw p1 p2 p3 p4 p5 p6 p7 qr qw q1 q2 q3 q4 q5 q6 q7 sr sw s1 s2 s3 s4 s5 s6 s7 _ h; exact absurd h (Nat.not_lt_zero _)
  | succ N ih =>
    intro c E F G t pr pw p1 p2 p3 p4 p5 p6 p7 qr qw q1 q2 q3 q4 q5 q6 q7 sr sw s1 s2 s3 s4 s5 s6 s7 ht hN hX hY hZ
    have hc := hX.2.2.1
    cases c with
    | zero =>
      have e1 : E = [] := List.eq_nil_of_length_eq_zero hX.2.1
      have e2 : F = [] := List.eq_nil_of_length_eq_zero hY.2.1
      have e3 : G = [] := List.eq_nil_of_length_eq_zero hZ.2.1
      subst e1 e2 e3 ht
      exact br_t (by decide) (gw_387 (E := []) hX hY hZ (fun pr' pw' p3' p4' p5' p6' p7' qr' qw' q3' q4' q5' q6' q7' sr' sw' s3' s4' s5' s6' s7' hX' hY' hZ' => H0 pr' pw' p1 p2 p3' p4' p5' p6' p7' qr' qw' q1 q2 q3' q4' q5' q6' q7' sr' sw' s1 s2 s3' s4' s5' s6' s7' hX' hY' hZ'))
    | succ c =>
      have e : t = nI c := by rw [ht, nI_pred]
      subst e
      refine br_f (nI_pos (by omega)) (gw_drop rfl (by omega) hX (fun p1' p2' hX' => br_t rfl (gw_drop rfl (by omega) hY (fun q1' q2' hY' => br_t rfl (gw_drop rfl (by omega) hZ (fun s1' s2' hZ' => br_t rfl (nm_e (ih c _ _ _ _ 0 pw p1' p2' p3 p4 p5 p6 p7 0 qw q1' q2' q3 q4 q5 q6 q7 0 sw s1' s2' s3 s4 s5 s6 s7 ?_ (by omega) hX' hY' hZ'))))))))
      grind
theorem gw_179 {i m u v p q : Nat} {E : List (Nat × Nat)} {pr pw : Int32} {p1 p2 p3 p4 p5 p6 p7 : Nat → Int32} {qr qw : Int32} {q1 q2 q3 q4 q5 q6 q7 : Nat → Int32} {sr sw : Int32} {s1 s2 s3 s4 s5 s6 s7 : Nat → Int32} (hi : i < L) (hL : L ≤ 260) (hm : m ≤ 6) (hu : u < n) (hv : v < n) (hp : p < n) (hq : q < n) (hX : gw_O n m E pr p1 p2 p3) (hY : gw_O n m (gw_Y n E) qr q1 q2 q3) (hZ : gw_O n m (gw_Z n E) sr s1 s2 s3)
    (HJ : ∀ (m' : Nat) (E' : List (Nat × Nat)) (pr pw : Int32) (p1 p2 p3 p4 p5 p6 p7 : Nat → Int32) (qr qw : Int32) (q1 q2 q3 q4 q5 q6 q7 : Nat → Int32) (sr sw : Int32) (s1 s2 s3 s4 s5 s6 s7 : Nat → Int32), m' ≤ 7 → gw_O n (m') (E') pr p1 p2 p3 → gw_O n (m') (gw_Y n E') qr q1 q2 q3 → gw_O n (m') (gw_Z n E') sr s1 s2 s3 → J (nI m') (nI (i + 3)) (nI n) (nI (m')) pr pw p1 p2 p3 p4 p5 p6 p7 (nI n) (nI (m')) qr qw q1 q2 q3 q4 q5 q6 q7 (nI n) (nI (m')) sr sw s1 s2 s3 s4 s5 s6 s7) :
    wL_law_179 post L xs J (nI n) (nI m) (nI i) (nI u) (nI v) (nI p) (nI q) kc ks (nI n) (nI m) pr pw p1 p2 p3 p4 p5 p6 p7 (nI n) (nI m) qr qw q1 q2 q3 q4 q5 q6 q7 (nI n) (nI m) sr sw s1 s2 s3 s4 s5 s6 s7 := by
  unfold wL_law_179
  refine nm_r (nI_1 m) (gw_add rfl rfl (by omega) hu hv hX (fun p1' p2' hX' => br_t rfl (gw_add (gw_mir hu) (gw_mir hv) (by omega) (by omega) (by omega) hY (fun q1' q2' hY' => br_t rfl (gw_add (gw_mir hv) (gw_mir hu) (by omega) (by omega) (by omega) hZ (fun s1' s2' hZ' => br_t rfl ⟨pk_in i L hi, ?_⟩))))))
  rw [← gw_Ya] at hY'
  rw [← gw_Za] at hZ'
  generalize hE1 : E ++ [(u, v)] = E1 at hX' hY' hZ'
  have hin := hX'.2.2.2.1
  have hlen := hX'.2.1
  refine br_c (fun _ => ?_) (fun _ => gw_387 hX' hY' hZ' (fun pr'' pw'' p3'' p4'' p5'' p6'' p7'' qr'' qw'' q3'' q4'' q5'' q6'' q7'' sr'' sw'' s3'' s4'' s5'' s6'' s7'' hX'' hY'' hZ'' => HJ (m + 1) E1 pr'' pw'' p1' p2' p3'' p4'' p5'' p6'' p7'' qr'' qw'' q1' q2' q3'' q4'' q5'' q6'' q7'' sr'' sw'' s1' s2' s3'' s4'' s5'' s6'' s7'' (by omega) hX'' hY'' hZ''))
  have hZl := hZ'.2.1
  refine gw_add rfl rfl (by omega) hp hq hX' (fun p1'' p2'' hX'' => br_t (nI_1 (m + 1)).symm (gw_add (gw_mir hp) (gw_mir hq) (by omega) (by omega) (by omega) hZ' (fun s1'' s2'' hZ'' => br_t (nI_1 (m + 1)).symm (gw_merge (k := m + 1) (g := (n - 1 - p, n - 1 - q)) rfl (by rw [← hZl]; exact List.getElem?_concat_length) hZ'' (fun s1''' s2''' hZ3 => br_t rfl ?_)))))
  rw [List.eraseIdx_append_of_length_le (by omega), hZl, Nat.sub_self, show List.eraseIdx [(n - 1 - p, n - 1 - q)] 0 = [] from rfl, List.append_nil] at hZ3
  have zm := gw_ZM hin hp hq
  have D : gw_D (m + 1) p q E1 (E1 ++ [(p, q)]) (gw_Y n E1) ((gw_Z n E1).map (tu_m (tu_j id (n - 1 - p, n - 1 - q)))) := ⟨rfl, by omega, hY'.2.1, by rw [List.length_map]; exact hZl, gw_YT hin, gw_Yr hin, zm.1, zm.2⟩
  refine gw_split D hp hq hX'' hY' hZ3 (fun pr4 pw4 p34 p44 p54 p64 p74 qr4 qw4 q34 q44 q54 q64 q74 sr4 sw4 s34 s44 s54 s64 s74 hX4 hY4 hZ4 => br_f (by decide) (gw_drop (k := m + 1) rfl (by omega) hX4 (fun p15 p25 hX5 => br_t rfl (nm_e ⟨m + 2, ?_⟩))))
  exact gw_337 (fun pr pw p1 p2 p3 p4 p5 p6 p7 qr qw q1 q2 q3 q4 q5 q6 q7 sr sw s1 s2 s3 s4 s5 s6 s7 hX hY hZ => HJ 0 [] pr pw p1 p2 p3 p4 p5 p6 p7 qr qw q1 q2 q3 q4 q5 q6 q7 sr sw s1 s2 s3 s4 s5 s6 s7 (by omega) hX hY hZ) (m + 2) (m + 1) _ _ _ _ 0 pw4 p15 p25 p34 p44 p54 p64 p74 qr4 qw4 q1' q2' q34 q44 q54 q64 q74 sr4 sw4 s1''' s2''' s34 s44 s54 s64 s74 rfl (by omega) hX5 hY4 hZ4
theorem gw_48 (h1 : post 1) (hL : L ≤ 260) (hn2 : 2 ≤ n) (hn : n ≤ 6) :
    ∀ (N i m : Nat) (E : List (Nat × Nat)) (pr pw : Int32) (p1 p2 p3 p4 p5 p6 p7 : Nat → Int32) (qr qw : Int32) (q1 q2 q3 q4 q5 q6 q7 : Nat → Int32) (sr sw : Int32) (s1 s2 s3 s4 s5 s6 s7 : Nat → Int32), i ≤ 1000 → L - i < N → m ≤ 7 → gw_O n m E pr p1 p2 p3 → gw_O n m (gw_Y n E) qr q1 q2 q3 → gw_O n m (gw_Z n E) sr s1 s2 s3 → wL_law_48 post L xs (nI n) kc ks N (nI m) (nI i) (nI n) (nI m) pr pw p1 p2 p3 p4 p5 p6 p7 (nI n) (nI m) qr qw q1 q2 q3 q4 q5 q6 q7 (nI n) (nI m) sr sw s1 s2 s3 s4 s5 s6 s7 := by
  intro N
  induction N with
  | zero => intro i m E pr pw p1 p2 p3 p4 p5 p6 p7 qr qw q1 q2 q3 q4 q5 q6 q7 sr sw s1 s2 s3 s4 s5 s6 s7 _ h; exact absurd h (Nat.not_lt_zero _)
  | succ N ih =>
    intro i m E pr pw p1 p2 p3 p4 p5 p6 p7 qr qw q1 q2 q3 q4 q5 q6 q7 sr sw s1 s2 s3 s4 s5 s6 s7 hi hN hm hX hY hZ
    by_cases c : L < i + 3
    · exact br_t ((gw_lt hL hi).mpr c) h1
    · have hn0 : ¬ nI n = 0 := nI_ne0 (by omega) (by omega)
      have i2 : nI i + 2 = nI (i + 2) := nI_add i 2
      obtain ⟨u, hu, eu⟩ := gw_mod (xs (nI i + 1).toNatClampNeg) (d := n) (by omega) (by omega)
      obtain ⟨v, hv, ev⟩ := gw_mod (xs (nI i + 2).toNatClampNeg) (d := n) (by omega) (by omega)
      obtain ⟨p, hp, ep⟩ := gw_mod (xs (nI i + 1).toNatClampNeg >>> ((8 : Int32) &&& 31)) (d := n) (by omega) (by omega)
      obtain ⟨q, hq, eq⟩ := gw_mod (xs (nI i + 2).toNatClampNeg >>> ((8 : Int32) &&& 31)) (d := n) (by omega) (by omega)
      obtain ⟨k, hk, ek⟩ := gw_mod (xs (nI i).toNatClampNeg) (d := 7) (by omega) (by omega)
      have HJ : ∀ (m' : Nat) (E' : List (Nat × Nat)) (pr pw : Int32) (p1 p2 p3 p4 p5 p6 p7 : Nat → Int32) (qr qw : Int32) (q1 q2 q3 q4 q5 q6 q7 : Nat → Int32) (sr sw : Int32) (s1 s2 s3 s4 s5 s6 s7 : Nat → Int32), m' ≤ 7 → gw_O n (m') (E') pr p1 p2 p3 → gw_O n (m') (gw_Y n E') qr q1 q2 q3 → gw_O n (m') (gw_Z n E') sr s1 s2 s3 → wL_law_48 post L xs (nI n) kc ks N (nI m') (nI (i + 3)) (nI n) (nI (m')) pr pw p1 p2 p3 p4 p5 p6 p7 (nI n) (nI (m')) qr qw q1 q2 q3 q4 q5 q6 q7 (nI n) (nI (m')) sr sw s1 s2 s3 s4 s5 s6 s7 := fun m' E' pr pw p1 p2 p3 p4 p5 p6 p7 qr qw q1 q2 q3 q4 q5 q6 q7 sr sw s1 s2 s3 s4 s5 s6 s7 => ih (i + 3) m' E' pr pw p1 p2 p3 p4 p5 p6 p7 qr qw q1 q2 q3 q4 q5 q6 q7 sr sw s1 s2 s3 s4 s5 s6 s7 (by omega) (by omega)
      refine br_f (fun z => c ((gw_lt hL hi).mp z)) ⟨pk_in (i + 1) L (by omega) (nI_1 i), hn0, nm_r eu ⟨pk_in (i + 2) L (by omega) i2, hn0, nm_r ev ⟨pk_in (i + 1) L (by omega) (nI_1 i), hn0, nm_r ep ⟨pk_in (i + 2) L (by omega) i2, hn0, nm_r eq ?_⟩⟩⟩⟩
      refine pk_eq m 7 (fun z => ?_) (fun z => gw_179 (by omega) hL (by omega) hu hv hp hq hX hY hZ HJ)
      subst z
      refine ⟨pk_in i L (by omega), by decide, nm_r ek (gw_drop rfl hk hX (fun p1' p2' hX' => br_t rfl (gw_drop rfl hk hY (fun q1' q2' hY' => br_t rfl (gw_drop rfl hk hZ (fun s1' s2' hZ' => br_t rfl ?_))))))⟩
      rw [← gw_Ye] at hY'
      rw [← gw_Ze] at hZ'
      exact gw_179 (m := 6) (by omega) hL (by omega) hu hv hp hq hX' hY' hZ' HJ
end
end
section
theorem gw_cell {post : Int32 → Prop} {L : Nat} {xs : Nat → Int32} (hL : L ≤ 260) (h : ∀ r, post r) : wpL_cell post L xs () 0 := by
  unfold wpL_cell
  refine br_c (fun _ => h _) (fun z => ⟨?_, h _⟩)
  rcases Nat.eq_zero_or_pos L with y | y
  · exact absurd (show nI L ≤ nI 0 from by rw [y]; exact nI_le (Nat.le_refl 0) (by omega)) z
  · exact pk_in 0 L y
theorem gw_5 (r : Int32) : ∃ k, k < 5 ∧ 2 + ((r &&& 255) - (r &&& 255) / 5 * 5) = nI (2 + k) := by
  obtain ⟨k, hk, ek⟩ := gw_mod r (d := 5) (by omega) (by omega)
  exact ⟨k, hk, (congrArg (fun z => (2 : Int32) + z) ek).trans (nI_add 2 k)⟩
theorem i_vc (xs : Nat → Int32) (L : Nat) (hL : L ≤ 260) : wpL_law (fun r => r = 1) L xs := by
  unfold wpL_law
  refine gw_cell hL (fun r => ⟨by decide, ?_⟩)
  obtain ⟨k, hk, ek⟩ := gw_5 r
  have O := gw_O0 (n := 2 + k) (by omega) (fun _ => 0) (fun _ => 0) (fun _ => 0)
  refine nm_r ek ⟨7, 145, by omega, by omega, gw_init (by omega) (by omega) (by omega) (by omega) ?_⟩
  refine ⟨by omega, by omega, 7, 145, by omega, by omega, gw_init (by omega) (by omega) (by omega) (by omega) ?_⟩
  refine ⟨by omega, by omega, 7, 145, by omega, by omega, gw_init (by omega) (by omega) (by omega) (by omega) ?_⟩
  refine ⟨L + 1, ?_⟩
  exact gw_48 (post := fun r => r = 1) (n := 2 + k) rfl hL (by omega) (by omega) (L + 1) 1 0 [] 0 0 (fun _ => 0) (fun _ => 0) (fun _ => 0) (fun _ => 0) (fun _ => 0) (fun _ => 0) (fun _ => 0) 0 0 (fun _ => 0) (fun _ => 0) (fun _ => 0) (fun _ => 0) (fun _ => 0) (fun _ => 0) (fun _ => 0) 0 0 (fun _ => 0) (fun _ => 0) (fun _ => 0) (fun _ => 0) (fun _ => 0) (fun _ => 0) (fun _ => 0) (by omega) (by omega) (by omega) O O O
end

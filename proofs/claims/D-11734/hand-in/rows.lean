section
/-- a list tells an array's first places: Q says how a place is told -/
def mx_RQ {α : Type} (Q : α → Int32 → Prop) (n : Nat) (l : List α) (a : Nat → Int32) : Prop :=
  l.length ≤ n ∧ ∀ (j : Nat) (h : j < l.length), Q l[j] (a j)
def mx_get {α : Type} : List α → Nat → (α → Bool) → Bool
  | [], _, _ => false
  | x :: _, 0, k => k x
  | _ :: l, n + 1, k => mx_get l n k
def mx_set {α : Type} : List α → Nat → α → (List α → Bool) → Bool
  | [], 0, x, k => k [x]
  | [], _ + 1, _, _ => false
  | _ :: l, 0, x, k => k (x :: l)
  | y :: l, n + 1, x, k => mx_set l n x (fun m => k (y :: m))
def mx_rd {α : Type} (l : List α) (i : Int32) (k : α → Bool) : Bool := if i < 0 then false else mx_get l i.toNatClampNeg k
def mx_wr {α : Type} (l : List α) (i : Int32) (x : α) (k : List α → Bool) : Bool := if i < 0 then false else if i.toNatClampNeg < 16 then mx_set l i.toNatClampNeg x k else false
theorem mx_get_ok {α : Type} : ∀ (l : List α) (n : Nat) (k : α → Bool), mx_get l n k = true → ∃ h : n < l.length, k l[n] = true
  | [], n, k, h => by
    unfold mx_get at h
    exact absurd h (by decide)
  | x :: l, 0, k, h => ⟨Nat.succ_pos _, h⟩
  | x :: l, n + 1, k, h => by
    obtain ⟨h1, h2⟩ := mx_get_ok l n k h
    exact ⟨Nat.succ_lt_succ h1, h2⟩
theorem mx_set_ok {α : Type} : ∀ (l : List α) (n : Nat) (x : α) (k : List α → Bool), mx_set l n x k = true →
    ∃ m, k m = true ∧ n < m.length ∧ (m.length ≤ l.length ∨ m.length ≤ n + 1) ∧ ∀ (j : Nat) (h : j < m.length), (j = n ∧ m[j] = x) ∨ (j ≠ n ∧ ∃ h' : j < l.length, m[j] = l[j])
  | [], 0, x, k, h => ⟨[x], h, Nat.one_pos, Or.inr (Nat.le_refl 1), fun j hj => match j, hj with
    | 0, _ => Or.inl ⟨rfl, rfl⟩
    | j + 1, hj => absurd (Nat.lt_of_succ_lt_succ hj) (Nat.not_lt_zero j)⟩
  | [], n + 1, x, k, h => by
    unfold mx_set at h
    exact absurd h (by decide)
  | y :: l, 0, x, k, h => ⟨x :: l, h, Nat.succ_pos _, Or.inl (Nat.le_refl _), fun j hj => match j, hj with
    | 0, _ => Or.inl ⟨rfl, rfl⟩
    | j + 1, hj => Or.inr ⟨Nat.succ_ne_zero j, hj, rfl⟩⟩
  | y :: l, n + 1, x, k, h => by
    obtain ⟨m, h1, h2, h3, h4⟩ := mx_set_ok l n x (fun m => k (y :: m)) h
    refine ⟨y :: m, h1, Nat.succ_lt_succ h2, ?_, fun j hj => ?_⟩
    · rcases h3 with h3 | h3
      · exact Or.inl (Nat.succ_le_succ h3)
      · exact Or.inr (Nat.succ_le_succ h3)
    · match j, hj with
      | 0, _ => exact Or.inr ⟨fun e => absurd e (by omega), Nat.succ_pos _, rfl⟩
      | j + 1, hj =>
        rcases h4 j (Nat.lt_of_succ_lt_succ hj) with ⟨e, f⟩ | ⟨e, h', f⟩
        · exact Or.inl ⟨by omega, f⟩
        · exact Or.inr ⟨fun e' => e (by omega), Nat.succ_lt_succ h', f⟩
theorem mx_rd_ok {α : Type} {Q : α → Int32 → Prop} {M : Nat} {l : List α} {a : Nat → Int32} {i : Int32} {k : α → Bool} (R : mx_RQ Q M l a) (h : mx_rd l i k = true) :
    vp_in i M ∧ ∃ x, Q x (a i.toNatClampNeg) ∧ k x = true := by
  unfold mx_rd at h
  by_cases hi : i < 0
  · rw [if_pos hi] at h
    exact absurd h (by decide)
  · rw [if_neg hi] at h
    obtain ⟨h1, h2⟩ := mx_get_ok _ _ _ h
    refine ⟨?_, _, R.2 _ h1, h2⟩
    unfold vp_in
    intro z
    rcases z with z | z
    · exact hi z
    · have := R.1
      omega
theorem mx_wr_ok {α : Type} {Q : α → Int32 → Prop} {l : List α} {a : Nat → Int32} {i : Int32} {x : α} {y : Int32} {k : List α → Bool} (R : mx_RQ Q 16 l a) (hx : Q x y) (h : mx_wr l i x k = true) :
    vp_in i 16 ∧ ∃ m, mx_RQ Q 16 m (upd a i.toNatClampNeg y) ∧ k m = true := by
  unfold mx_wr at h
  by_cases hi : i < 0
  · rw [if_pos hi] at h
    exact absurd h (by decide)
  · rw [if_neg hi] at h
    by_cases hj : i.toNatClampNeg < 16
    · rw [if_pos hj] at h
      obtain ⟨m, h1, h2, h3, h4⟩ := mx_set_ok _ _ _ _ h
      refine ⟨?_, m, ⟨?_, fun j g => ?_⟩, h1⟩
      · unfold vp_in
        intro z
        rcases z with z | z
        · exact hi z
        · omega
      · have := R.1
        omega
      · rcases h4 j g with ⟨e, f⟩ | ⟨e, g', f⟩
        · rw [f, e, pk_us]
          exact hx
        · rw [f, pk_un e]
          exact R.2 j g'
    · rw [if_neg hj] at h
      exact absurd h (by decide)
abbrev mx_RA (n : Nat) (l : List Int32) (a : Nat → Int32) : Prop := mx_RQ (fun x y => y = x) n l a
theorem mx_rd_eq {M : Nat} {l : List Int32} {a : Nat → Int32} {i : Int32} {k : Int32 → Bool} (R : mx_RA M l a) (h : mx_rd l i k = true) : vp_in i M ∧ k (a i.toNatClampNeg) = true := by
  obtain ⟨h1, x, h2, h3⟩ := mx_rd_ok R h
  exact ⟨h1, by rw [h2]; exact h3⟩
theorem mx_wr_eq {l : List Int32} {a : Nat → Int32} {i x : Int32} {k : List Int32 → Bool} (R : mx_RA 16 l a) (h : mx_wr l i x k = true) :
    vp_in i 16 ∧ ∃ m, mx_RA 16 m (upd a i.toNatClampNeg x) ∧ k m = true := mx_wr_ok R rfl h
theorem mx_nil {α : Type} {Q : α → Int32 → Prop} {n : Nat} {a : Nat → Int32} : mx_RQ Q n [] a := ⟨Nat.zero_le n, fun j h => absurd h (Nat.not_lt_zero j)⟩
/-- a token's shape: digits are told as 0 -/
def mx_shp (x : Int32) : Int32 := if x < 10 then 0 else x
theorem mx_shp_lo {x : Int32} (h : x < 10) : mx_shp x = 0 := if_pos h
theorem mx_shp_hi {x : Int32} (h : ¬ x < 10) : mx_shp x = x := if_neg h
theorem mx_shp_eq {x e : Int32} (he : ¬ e < 10) : x = e ↔ mx_shp x = e := by
  by_cases h : x < 10
  · rw [mx_shp_lo h]
    constructor
    · intro z
      rw [z] at h
      exact absurd h he
    · intro z
      rw [← z] at he
      exact absurd (show (0 : Int32) < 10 by decide) he
  · rw [mx_shp_hi h]
abbrev mx_RT (T : List Int32) (a : Nat → Int32) : Prop := mx_RQ (fun t y => t = mx_shp y) 16 T a
theorem mx_rd_sh {T : List Int32} {a : Nat → Int32} {i : Int32} {k : Int32 → Bool} (R : mx_RT T a) (h : mx_rd T i k = true) : vp_in i 16 ∧ k (mx_shp (a i.toNatClampNeg)) = true := by
  obtain ⟨h1, x, h2, h3⟩ := mx_rd_ok R h
  exact ⟨h1, by rw [← h2]; exact h3⟩
/-- a node's value, told as a linear form over the text's places -/
abbrev mx_V : Type := List (Int32 × Nat)
def mx_ev (t : Nat → Int32) : mx_V → Int32
  | [] => 0
  | x :: v => x.1 * t x.2 + mx_ev t v
def mx_neg : mx_V → mx_V
  | [] => []
  | x :: v => (-x.1, x.2) :: mx_neg v
def mx_dbl : mx_V → mx_V
  | [] => []
  | x :: v => (2 * x.1, x.2) :: mx_dbl v
def mx_sub (v w : mx_V) : mx_V := v ++ mx_neg w
theorem mx_ev_app (t : Nat → Int32) : ∀ v w : mx_V, mx_ev t (v ++ w) = mx_ev t v + mx_ev t w
  | [], w => by
    show mx_ev t w = 0 + mx_ev t w
    grind
  | x :: v, w => by
    show x.1 * t x.2 + mx_ev t (v ++ w) = (x.1 * t x.2 + mx_ev t v) + mx_ev t w
    rw [mx_ev_app t v w]
    grind
theorem mx_ev_neg (t : Nat → Int32) : ∀ v : mx_V, mx_ev t (mx_neg v) = - mx_ev t v
  | [] => by
    show (0 : Int32) = - 0
    decide
  | x :: v => by
    show (-x.1) * t x.2 + mx_ev t (mx_neg v) = -(x.1 * t x.2 + mx_ev t v)
    rw [mx_ev_neg t v]
    grind
theorem mx_ev_dbl (t : Nat → Int32) : ∀ v : mx_V, mx_ev t (mx_dbl v) = 2 * mx_ev t v
  | [] => by
    show (0 : Int32) = 2 * 0
    decide
  | x :: v => by
    show (2 * x.1) * t x.2 + mx_ev t (mx_dbl v) = 2 * (x.1 * t x.2 + mx_ev t v)
    rw [mx_ev_dbl t v]
    grind
theorem mx_ev_sub (t : Nat → Int32) (v w : mx_V) : mx_ev t (mx_sub v w) = mx_ev t v - mx_ev t w := by
  unfold mx_sub
  rw [mx_ev_app, mx_ev_neg]
  grind
theorem mx_ev_one (t : Nat → Int32) (p : Nat) : mx_ev t [(1, p)] = t p := by
  show 1 * t p + 0 = t p
  grind
abbrev mx_RV (t : Nat → Int32) (l : List mx_V) (a : Nat → Int32) : Prop := mx_RQ (fun v y => y = mx_ev t v) 16 l a
/-- a check that forks, over a predicate that forks -/
theorem mx_if {c : Prop} [Decidable c] {A B : Prop} {a b : Bool} (h : (if c then a else b) = true) (f : c → a = true → A) (g : ¬ c → b = true → B) : (c → A) ∧ (¬ c → B) :=
  ⟨fun hc => f hc (by rw [if_pos hc] at h; exact h), fun hc => g hc (by rw [if_neg hc] at h; exact h)⟩
theorem mx_ifi {c d : Prop} [Decidable c] {A B : Prop} {a b : Bool} (e : d ↔ c) (h : (if c then a else b) = true) (f : d → a = true → A) (g : ¬ d → b = true → B) : (d → A) ∧ (¬ d → B) :=
  ⟨fun hc => f hc (by rw [if_pos (e.mp hc)] at h; exact h), fun hc => g hc (by rw [if_neg (fun z => hc (e.mpr z))] at h; exact h)⟩
theorem mx_nar {z : Int32} (hz : z = 0 ∨ z = 1) : narrow .boolean (.int z) = .int z ∧ fits .boolean (.int z) = true := by
  rcases hz with rfl | rfl
  · exact ⟨rfl, rfl⟩
  · exact ⟨rfl, rfl⟩
end
section
/-- kinds, levels, meanings, the text's shape -/
abbrev mx_G : Type := List Int32 × List Int32 × List Int32 × List Int32
def mx_RG (g : mx_G) (a1 a2 a3 a4 : Nat → Int32) : Prop := mx_RA 5 g.1 a1 ∧ mx_RA 8 g.2.1 a2 ∧ mx_RA 8 g.2.2.1 a3 ∧ mx_RT g.2.2.2 a4
abbrev mx_LS : Type := List Int32 × List Int32 × List Int32 × List Int32 × List mx_V × List Int32 × List Int32 × List Int32 × List Int32 × List Int32
abbrev mx_PS : Type := Int32 × Int32 × Int32 × Int32 × mx_LS
abbrev mx_ZS : Type := (Nat → Int32) × (Nat → Int32) × (Nat → Int32) × (Nat → Int32) × (Nat → Int32) × (Nat → Int32) × (Nat → Int32) × (Nat → Int32) × (Nat → Int32) × (Nat → Int32)
def mx_RR (t : Nat → Int32) (ls : mx_LS) (z : mx_ZS) : Prop :=
  match ls, z with
  | (l5, l6, l7, l8, l9, l10, l11, l12, l13, l14), (a5, a6, a7, a8, a9, a10, a11, a12, a13, a14) => mx_RA 16 l5 a5 ∧ mx_RA 16 l6 a6 ∧ mx_RA 16 l7 a7 ∧ mx_RA 16 l8 a8 ∧ mx_RV t l9 a9 ∧ mx_RA 16 l10 a10 ∧ mx_RA 16 l11 a11 ∧ mx_RA 16 l12 a12 ∧ mx_RA 16 l13 a13 ∧ mx_RA 16 l14 a14
theorem mx_mk {t : Nat → Int32} {a5 a6 a7 a8 a9 a10 a11 a12 a13 a14 : Nat → Int32} {l5 l6 l7 l8 : List Int32} {l9 : List mx_V} {l10 l11 l12 l13 l14 : List Int32}
    (R5 : mx_RA 16 l5 a5) (R6 : mx_RA 16 l6 a6) (R7 : mx_RA 16 l7 a7) (R8 : mx_RA 16 l8 a8) (R9 : mx_RV t l9 a9) (R10 : mx_RA 16 l10 a10) (R11 : mx_RA 16 l11 a11) (R12 : mx_RA 16 l12 a12) (R13 : mx_RA 16 l13 a13) (R14 : mx_RA 16 l14 a14) :
    mx_RR t (l5, l6, l7, l8, l9, l10, l11, l12, l13, l14) (a5, a6, a7, a8, a9, a10, a11, a12, a13, a14) := ⟨R5, R6, R7, R8, R9, R10, R11, R12, R13, R14⟩
def mx_cLev (g : mx_G) (p : Int32) (k : Int32 → Bool) : Bool := mx_rd g.2.2.2 p fun t => mx_rd g.2.1 (t - 10) k
def mx_cKind (g : mx_G) (p : Int32) (k : Int32 → Bool) : Bool := mx_cLev g p fun r => mx_rd g.1 r k
def mx_cNL (g : mx_G) (p : Int32) (k : Int32 → Bool) : Bool := mx_cLev g p fun r => mx_rd g.1 r fun x => if x = 1 then k (r + 1) else if x = 2 then k (r + 1) else k r
def mx_cNR (g : mx_G) (p : Int32) (k : Int32 → Bool) : Bool := mx_cLev g p fun r => mx_rd g.1 r fun x => if x = 0 then k (r + 1) else if x = 2 then k (r + 1) else k r
def mx_cTF (g : mx_G) (p q : Int32) (k : Int32 → Bool) : Bool := mx_cLev g p fun r => if q < r then k 1 else if r = q then mx_rd g.1 q fun y => if y = 1 then k 0 else k 1 else k 0
/-- a text place's operator: the index into the tables -/
theorem mx_ix {l : List Int32} {a : Nat → Int32} {x : Int32} {M : Nat} {k : Int32 → Bool} (R : mx_RA M l a) (h : mx_rd l (mx_shp x - 10) k = true) : vp_in (x - 10) M ∧ k (a (x - 10).toNatClampNeg) = true := by
  by_cases hx : x < 10
  · rw [mx_shp_lo hx] at h
    unfold mx_rd at h
    rw [if_pos (show (0 : Int32) - 10 < 0 by decide)] at h
    exact absurd h (by decide)
  · rw [mx_shp_hi hx] at h
    exact mx_rd_eq R h
theorem mx_lev_ok {g : mx_G} {a1 a2 a3 a4 : Nat → Int32} {p : Int32} {k : Int32 → Bool} (hg : mx_RG g a1 a2 a3 a4) (h : mx_cLev g p k = true) :
    vp_in p 16 ∧ vp_in (a4 p.toNatClampNeg - 10) 8 ∧ k (a2 (a4 p.toNatClampNeg - 10).toNatClampNeg) = true := by
  unfold mx_cLev at h
  obtain ⟨h1, h2⟩ := mx_rd_sh hg.2.2.2 h
  obtain ⟨h3, h4⟩ := mx_ix hg.2.1 h2
  exact ⟨h1, h3, h4⟩
theorem mx_lev {post : Int32 → Prop} {g : mx_G} {p : Int32} {k : Int32 → Bool} {c N O W F top : Int32} {a1 a2 a3 a4 : Nat → Int32} {z : mx_ZS} (hg : mx_RG g a1 a2 a3 a4) (h : mx_cLev g p k = true) (hp : ∀ r, k r = true → post r) : wpX_levelAt post (c, N, O, W, F, top, a1, a2, a3, a4, z) p := by
  obtain ⟨a5, a6, a7, a8, a9, a10, a11, a12, a13, a14⟩ := z
  obtain ⟨h1, h2, h3⟩ := mx_lev_ok hg h
  exact ⟨h1, h2, hp _ h3⟩
theorem mx_kind {post : Int32 → Prop} {g : mx_G} {p : Int32} {k : Int32 → Bool} {c N O W F top : Int32} {a1 a2 a3 a4 : Nat → Int32} {z : mx_ZS} (hg : mx_RG g a1 a2 a3 a4) (h : mx_cKind g p k = true) (hp : ∀ r, k r = true → post r) : wpX_kindAt post (c, N, O, W, F, top, a1, a2, a3, a4, z) p := by
  obtain ⟨a5, a6, a7, a8, a9, a10, a11, a12, a13, a14⟩ := z
  unfold mx_cKind at h
  unfold wpX_kindAt
  refine mx_lev hg h (fun r h => ?_)
  obtain ⟨h1, h2⟩ := mx_rd_eq hg.1 h
  exact ⟨h1, hp _ h2⟩
theorem mx_nl {post : Int32 → Prop} {g : mx_G} {p : Int32} {k : Int32 → Bool} {c N O W F top : Int32} {a1 a2 a3 a4 : Nat → Int32} {z : mx_ZS} (hg : mx_RG g a1 a2 a3 a4) (h : mx_cNL g p k = true) (hp : ∀ r, k r = true → post r) : wpX_needLeft post (c, N, O, W, F, top, a1, a2, a3, a4, z) p := by
  obtain ⟨a5, a6, a7, a8, a9, a10, a11, a12, a13, a14⟩ := z
  unfold mx_cNL at h
  unfold wpX_needLeft
  refine mx_lev hg h (fun r h => ?_)
  obtain ⟨h1, h2⟩ := mx_rd_eq hg.1 h
  exact ⟨h1, nm_e (mx_if h2 (fun _ h => hp _ h) (fun _ h => mx_if h (fun _ h => hp _ h) (fun _ h => hp _ h)))⟩
theorem mx_nr {post : Int32 → Prop} {g : mx_G} {p : Int32} {k : Int32 → Bool} {c N O W F top : Int32} {a1 a2 a3 a4 : Nat → Int32} {z : mx_ZS} (hg : mx_RG g a1 a2 a3 a4) (h : mx_cNR g p k = true) (hp : ∀ r, k r = true → post r) : wpX_needRight post (c, N, O, W, F, top, a1, a2, a3, a4, z) p := by
  obtain ⟨a5, a6, a7, a8, a9, a10, a11, a12, a13, a14⟩ := z
  unfold mx_cNR at h
  unfold wpX_needRight
  refine mx_lev hg h (fun r h => ?_)
  obtain ⟨h1, h2⟩ := mx_rd_eq hg.1 h
  exact ⟨h1, nm_e (mx_if h2 (fun _ h => hp _ h) (fun _ h => mx_if h (fun _ h => hp _ h) (fun _ h => hp _ h)))⟩
theorem mx_tf {post : Int32 → Prop} {g : mx_G} {p q : Int32} {k : Int32 → Bool} {c N O W F top : Int32} {a1 a2 a3 a4 : Nat → Int32} {z : mx_ZS} (hg : mx_RG g a1 a2 a3 a4) (h : mx_cTF g p q k = true) (hp : ∀ r, k r = true → post r) : wpX_takesFirst post (c, N, O, W, F, top, a1, a2, a3, a4, z) p q := by
  obtain ⟨a5, a6, a7, a8, a9, a10, a11, a12, a13, a14⟩ := z
  unfold mx_cTF at h
  unfold wpX_takesFirst
  refine mx_lev hg h (fun r h => ?_)
  refine mx_if h (fun _ h => hp _ h) (fun _ h => mx_if h (fun _ h => ?_) (fun _ h => hp _ h))
  obtain ⟨h1, h2⟩ := mx_rd_eq hg.1 h
  exact ⟨h1, mx_if h2 (fun _ h => hp _ h) (fun _ h => hp _ h)⟩
end
section
def mx_cM94 (s : mx_PS) (p z : Int32) (k : Int32 → mx_PS → Bool) : Bool :=
  match s with
  | (N, O, W, F, l5, l6, l7, l8, l9, l10, l11, l12, l13, l14) => mx_wr l11 N z fun m11 => mx_wr l12 N p fun m12 => k (N + 1 - 1) (N + 1, O, W, F, l5, l6, l7, l8, l9, l10, m11, m12, l13, l14)
def mx_cMake (s : mx_PS) (p a b st : Int32) (v : mx_V) (k : Int32 → mx_PS → Bool) : Bool :=
  match s with
  | (N, O, W, F, l5, l6, l7, l8, l9, l10, l11, l12, l13, l14) => mx_wr l5 N p fun m5 => mx_wr l6 N a fun m6 => mx_wr l7 N b fun m7 => mx_wr l8 N st fun m8 => mx_wr l9 N v fun m9 => mx_wr l10 N 0 fun m10 =>
    if a < 0 then mx_cM94 (N, O, W, F, m5, m6, m7, m8, m9, m10, l11, l12, l13, l14) p p k
    else mx_rd l11 a fun x => if p ≤ x then mx_cM94 (N, O, W, F, m5, m6, m7, m8, m9, m10, l11, l12, l13, l14) p p k else mx_cM94 (N, O, W, F, m5, m6, m7, m8, m9, m10, l11, l12, l13, l14) p x k
theorem mx_m94 {post : Int32 → St2 → Prop} {p e : Int32} {k : Int32 → mx_PS → Bool} {c N O W F top : Int32} {a1 a2 a3 a4 a5 a6 a7 a8 a9 a10 a11 a12 a13 a14 : Nat → Int32} {l5 l6 l7 l8 : List Int32} {l9 : List mx_V} {l10 l11 l12 l13 l14 : List Int32} (R : mx_RR a4 (l5, l6, l7, l8, l9, l10, l11, l12, l13, l14) (a5, a6, a7, a8, a9, a10, a11, a12, a13, a14)) (h : mx_cM94 (N, O, W, F, l5, l6, l7, l8, l9, l10, l11, l12, l13, l14) p e k = true)
    (hp : ∀ r N O W F top ls z, mx_RR a4 ls z → k r (N, O, W, F, ls) = true → post r (c, N, O, W, F, top, a1, a2, a3, a4, z)) : wX_makeNode_94 post p e N c N O W F top a1 a2 a3 a4 a5 a6 a7 a8 a9 a10 a11 a12 a13 a14 := by
  obtain ⟨R5, R6, R7, R8, R9, R10, R11, R12, R13, R14⟩ := R
  unfold mx_cM94 at h
  dsimp only at h
  obtain ⟨v1, m11, S11, h⟩ := mx_wr_eq R11 h
  obtain ⟨v2, m12, S12, h⟩ := mx_wr_eq R12 h
  exact ⟨v1, nm_e ⟨v2, nm_e (nm_e (hp _ _ _ _ _ _ _ _ (mx_mk R5 R6 R7 R8 R9 R10 S11 S12 R13 R14) h))⟩⟩
theorem mx_make {post : Int32 → St2 → Prop} {p a b st y : Int32} {v : mx_V} {k : Int32 → mx_PS → Bool} {ls : mx_LS} {c N O W F top : Int32} {a1 a2 a3 a4 : Nat → Int32} {z : mx_ZS} (R : mx_RR a4 ls z) (hy : y = mx_ev a4 v) (h : mx_cMake (N, O, W, F, ls) p a b st v k = true)
    (hp : ∀ r N O W F top ls z, mx_RR a4 ls z → k r (N, O, W, F, ls) = true → post r (c, N, O, W, F, top, a1, a2, a3, a4, z)) : wpX_makeNode post (c, N, O, W, F, top, a1, a2, a3, a4, z) p a b st y := by
  obtain ⟨l5, l6, l7, l8, l9, l10, l11, l12, l13, l14⟩ := ls
  obtain ⟨a5, a6, a7, a8, a9, a10, a11, a12, a13, a14⟩ := z
  obtain ⟨R5, R6, R7, R8, R9, R10, R11, R12, R13, R14⟩ := R
  unfold mx_cMake at h
  dsimp only at h
  obtain ⟨v1, m5, S5, h⟩ := mx_wr_eq R5 h
  obtain ⟨v2, m6, S6, h⟩ := mx_wr_eq R6 h
  obtain ⟨v3, m7, S7, h⟩ := mx_wr_eq R7 h
  obtain ⟨v4, m8, S8, h⟩ := mx_wr_eq R8 h
  obtain ⟨v5, m9, S9, h⟩ := mx_wr_ok R9 hy h
  obtain ⟨v6, m10, S10, h⟩ := mx_wr_eq R10 h
  refine ⟨v1, nm_e ⟨v2, nm_e ⟨v3, nm_e ⟨v4, nm_e ⟨v5, nm_e ⟨v6, nm_e ?_⟩⟩⟩⟩⟩⟩
  refine mx_if h (fun _ h => ?_) (fun _ h => ?_)
  · exact mx_m94 (mx_mk S5 S6 S7 S8 S9 S10 R11 R12 R13 R14) h hp
  · obtain ⟨v7, h⟩ := mx_rd_eq R11 h
    exact ⟨v7, mx_if h (fun _ h => mx_m94 (mx_mk S5 S6 S7 S8 S9 S10 R11 R12 R13 R14) h hp) (fun _ h => ⟨v7, mx_m94 (mx_mk S5 S6 S7 S8 S9 S10 R11 R12 R13 R14) h hp⟩)⟩
/-- an operator between: minus alone is told -/
def mx_cA214 (s : mx_PS) (p x2 x4 x5 x6 e : Int32) (k : mx_PS → Bool) : Bool :=
  match s with
  | (N, O, W, F, l5, l6, l7, l8, l9, l10, l11, l12, l13, l14) => if x2 = 1 then mx_rd l9 x5 fun v => mx_rd l9 x6 fun w => mx_cMake (N, O, W, e, l5, l6, l7, l8, l9, l10, l11, l12, l13, l14) p x5 x6 x4 (mx_sub v w) fun r s => match s with
    | (N, O, W, F, l5, l6, l7, l8, l9, l10, l11, l12, l13, l14) => mx_rd l12 x6 fun y => mx_wr l12 r y fun m12 => mx_wr l13 (O - 1 - 1) r fun m13 => k (N, O - 1, W, F, l5, l6, l7, l8, l9, l10, l11, m12, m13, l14)
    else false
/-- an operator before: twice alone is told -/
def mx_cA130 (s : mx_PS) (x7 z0 z1 : Int32) (k : mx_PS → Bool) : Bool :=
  match s with
  | (N, O, W, F, l5, l6, l7, l8, l9, l10, l11, l12, l13, l14) => mx_wr l12 z1 z0 fun m12 => mx_wr l13 (O - 1) x7 fun m13 => k (N, O, W, F, l5, l6, l7, l8, l9, l10, l11, m12, m13, l14)
def mx_cA71 (s : mx_PS) (p x2 x4 x5 e : Int32) (k : mx_PS → Bool) : Bool :=
  match s with
  | (N, O, W, F, l5, l6, l7, l8, l9, l10, l11, l12, l13, l14) => if x2 = 2 then mx_rd l9 x5 fun v => mx_cMake (N, O, W, e, l5, l6, l7, l8, l9, l10, l11, l12, l13, l14) p x5 (-1) x4 (mx_dbl v) fun r s => match s with
    | (N, O, W, F, l5, l6, l7, l8, l9, l10, l11, l12, l13, l14) => mx_rd l12 x5 fun y => if y ≤ p then mx_cA130 (N, O, W, F, l5, l6, l7, l8, l9, l10, l11, l12, l13, l14) r p r k else mx_cA130 (N, O, W, F, l5, l6, l7, l8, l9, l10, l11, l12, l13, l14) r y r k
    else false
def mx_cApply (g : mx_G) (s : mx_PS) (p : Int32) (k : mx_PS → Bool) : Bool :=
  match s with
  | (N, O, W, F, l5, l6, l7, l8, l9, l10, l11, l12, l13, l14) => mx_rd g.2.2.2 p fun t => mx_rd g.2.2.1 (t - 10) fun x2 => mx_cKind g p fun r4 => mx_cLev g p fun r5 =>
    if r4 < 3 then
      mx_rd l13 (O - 2) fun x5 => mx_rd l13 (O - 1) fun x6 =>
      if F = 0 then mx_cA214 (N, O, W, F, l5, l6, l7, l8, l9, l10, l11, l12, l13, l14) p x2 r5 x5 x6 0 k else
      mx_rd l8 x5 fun y5 => mx_cNL g p fun q5 => if y5 < q5 then mx_cA214 (N, O, W, F, l5, l6, l7, l8, l9, l10, l11, l12, l13, l14) p x2 r5 x5 x6 0 k else
      mx_rd l8 x6 fun y6 => mx_cNR g p fun q6 => if y6 < q6 then mx_cA214 (N, O, W, F, l5, l6, l7, l8, l9, l10, l11, l12, l13, l14) p x2 r5 x5 x6 0 k else mx_cA214 (N, O, W, F, l5, l6, l7, l8, l9, l10, l11, l12, l13, l14) p x2 r5 x5 x6 1 k
    else
      mx_rd l13 (O - 1) fun x5 =>
      if F = 0 then mx_cA71 (N, O, W, F, l5, l6, l7, l8, l9, l10, l11, l12, l13, l14) p x2 r5 x5 0 k else
      mx_rd l8 x5 fun y5 => if y5 < r5 then mx_cA71 (N, O, W, F, l5, l6, l7, l8, l9, l10, l11, l12, l13, l14) p x2 r5 x5 0 k else mx_cA71 (N, O, W, F, l5, l6, l7, l8, l9, l10, l11, l12, l13, l14) p x2 r5 x5 1 k
theorem mx_a214 {post : St2 → Prop} {p x2 x4 x5 x6 e : Int32} {k : mx_PS → Bool} {c N O W F top : Int32} {a1 a2 a3 a4 a5 a6 a7 a8 a9 a10 a11 a12 a13 a14 : Nat → Int32} {l5 l6 l7 l8 : List Int32} {l9 : List mx_V} {l10 l11 l12 l13 l14 : List Int32} (R : mx_RR a4 (l5, l6, l7, l8, l9, l10, l11, l12, l13, l14) (a5, a6, a7, a8, a9, a10, a11, a12, a13, a14)) (he : e = 0 ∨ e = 1) (h : mx_cA214 (N, O, W, F, l5, l6, l7, l8, l9, l10, l11, l12, l13, l14) p x2 x4 x5 x6 e k = true)
    (hp : ∀ N O W F top ls z, mx_RR a4 ls z → k (N, O, W, F, ls) = true → post (c, N, O, W, F, top, a1, a2, a3, a4, z)) : wX_apply_214 post p x2 x4 x5 x6 e c N O W F top a1 a2 a3 a4 a5 a6 a7 a8 a9 a10 a11 a12 a13 a14 := by
  have R' := R
  obtain ⟨R5, R6, R7, R8, R9, R10, R11, R12, R13, R14⟩ := R'
  unfold mx_cA214 at h
  dsimp only at h
  by_cases h2 : x2 = 1
  · rw [if_pos h2] at h
    obtain ⟨v5, v, hv, h⟩ := mx_rd_ok R9 h
    obtain ⟨v6, w, hw, h⟩ := mx_rd_ok R9 h
    refine ⟨(mx_nar he).1, (mx_nar he).2, v5, v6, ?_⟩
    refine br_f (by rw [h2]; decide) (br_t h2 ?_)
    refine mx_make (v := mx_sub v w) R ?_ h ?_
    · rw [mx_ev_sub, hv, hw]
    · intro r N O W F top ls z R h
      obtain ⟨l5, l6, l7, l8, l9, l10, l11, l12, l13, l14⟩ := ls
      obtain ⟨a5, a6, a7, a8, a9, a10, a11, a12, a13, a14⟩ := z
      obtain ⟨R5, R6, R7, R8, R9, R10, R11, R12, R13, R14⟩ := R
      dsimp only at h
      obtain ⟨u1, h⟩ := mx_rd_eq R12 h
      obtain ⟨u2, m12, S12, h⟩ := mx_wr_eq R12 h
      obtain ⟨u3, m13, S13, h⟩ := mx_wr_eq R13 h
      exact ⟨u1, u2, nm_e (nm_e ⟨u3, nm_e (hp _ _ _ _ _ _ _ (mx_mk R5 R6 R7 R8 R9 R10 R11 S12 S13 R14) h)⟩)⟩
  · rw [if_neg h2] at h
    exact absurd h (by decide)
theorem mx_a130 {post : St2 → Prop} {x7 z0 z1 : Int32} {k : mx_PS → Bool} {c N O W F top : Int32} {a1 a2 a3 a4 a5 a6 a7 a8 a9 a10 a11 a12 a13 a14 : Nat → Int32} {l5 l6 l7 l8 : List Int32} {l9 : List mx_V} {l10 l11 l12 l13 l14 : List Int32} (R : mx_RR a4 (l5, l6, l7, l8, l9, l10, l11, l12, l13, l14) (a5, a6, a7, a8, a9, a10, a11, a12, a13, a14)) (h : mx_cA130 (N, O, W, F, l5, l6, l7, l8, l9, l10, l11, l12, l13, l14) x7 z0 z1 k = true)
    (hp : ∀ N O W F top ls z, mx_RR a4 ls z → k (N, O, W, F, ls) = true → post (c, N, O, W, F, top, a1, a2, a3, a4, z)) : wX_apply_130 post x7 z0 z1 c N O W F top a1 a2 a3 a4 a5 a6 a7 a8 a9 a10 a11 a12 a13 a14 := by
  obtain ⟨R5, R6, R7, R8, R9, R10, R11, R12, R13, R14⟩ := R
  unfold mx_cA130 at h
  dsimp only at h
  obtain ⟨u2, m12, S12, h⟩ := mx_wr_eq R12 h
  obtain ⟨u3, m13, S13, h⟩ := mx_wr_eq R13 h
  exact ⟨u2, nm_e ⟨u3, nm_e (hp _ _ _ _ _ _ _ (mx_mk R5 R6 R7 R8 R9 R10 R11 S12 S13 R14) h)⟩⟩
theorem mx_a71 {post : St2 → Prop} {p x2 x4 x5 e : Int32} {k : mx_PS → Bool} {c N O W F top : Int32} {a1 a2 a3 a4 a5 a6 a7 a8 a9 a10 a11 a12 a13 a14 : Nat → Int32} {l5 l6 l7 l8 : List Int32} {l9 : List mx_V} {l10 l11 l12 l13 l14 : List Int32} (R : mx_RR a4 (l5, l6, l7, l8, l9, l10, l11, l12, l13, l14) (a5, a6, a7, a8, a9, a10, a11, a12, a13, a14)) (he : e = 0 ∨ e = 1) (h : mx_cA71 (N, O, W, F, l5, l6, l7, l8, l9, l10, l11, l12, l13, l14) p x2 x4 x5 e k = true)
    (hp : ∀ N O W F top ls z, mx_RR a4 ls z → k (N, O, W, F, ls) = true → post (c, N, O, W, F, top, a1, a2, a3, a4, z)) : wX_apply_71 post p x2 x4 x5 e c N O W F top a1 a2 a3 a4 a5 a6 a7 a8 a9 a10 a11 a12 a13 a14 := by
  have R' := R
  obtain ⟨R5, R6, R7, R8, R9, R10, R11, R12, R13, R14⟩ := R'
  unfold mx_cA71 at h
  dsimp only at h
  by_cases h2 : x2 = 2
  · rw [if_pos h2] at h
    obtain ⟨v5, v, hv, h⟩ := mx_rd_ok R9 h
    refine ⟨(mx_nar he).1, (mx_nar he).2, v5, ?_⟩
    refine br_f (by rw [h2]; decide) (br_f (by rw [h2]; decide) (br_t h2 ?_))
    refine mx_make (v := mx_dbl v) R ?_ h ?_
    · rw [mx_ev_dbl, hv]
    · intro r N O W F top ls z R h
      obtain ⟨l5, l6, l7, l8, l9, l10, l11, l12, l13, l14⟩ := ls
      obtain ⟨a5, a6, a7, a8, a9, a10, a11, a12, a13, a14⟩ := z
      have R' := R
      obtain ⟨R5, R6, R7, R8, R9, R10, R11, R12, R13, R14⟩ := R'
      dsimp only at h
      obtain ⟨u1, h⟩ := mx_rd_eq R12 h
      exact ⟨u1, mx_if h (fun _ h => mx_a130 R h hp) (fun _ h => ⟨u1, mx_a130 R h hp⟩)⟩
  · rw [if_neg h2] at h
    exact absurd h (by decide)
theorem mx_apply {post : St2 → Prop} {g : mx_G} {p : Int32} {k : mx_PS → Bool} {ls : mx_LS} {c N O W F top : Int32} {a1 a2 a3 a4 : Nat → Int32} {z : mx_ZS} (hg : mx_RG g a1 a2 a3 a4) (R : mx_RR a4 ls z) (h : mx_cApply g (N, O, W, F, ls) p k = true)
    (hp : ∀ N O W F top ls z, mx_RR a4 ls z → k (N, O, W, F, ls) = true → post (c, N, O, W, F, top, a1, a2, a3, a4, z)) : wpX_apply post (c, N, O, W, F, top, a1, a2, a3, a4, z) p := by
  obtain ⟨l5, l6, l7, l8, l9, l10, l11, l12, l13, l14⟩ := ls
  obtain ⟨a5, a6, a7, a8, a9, a10, a11, a12, a13, a14⟩ := z
  have R' := R
  obtain ⟨R5, R6, R7, R8, R9, R10, R11, R12, R13, R14⟩ := R'
  unfold mx_cApply at h
  dsimp only at h
  obtain ⟨u1, h⟩ := mx_rd_sh hg.2.2.2 h
  obtain ⟨u2, h⟩ := mx_ix hg.2.2.1 h
  refine ⟨u1, u2, nm_e ?_⟩
  refine mx_kind hg h (fun r4 h => ?_)
  refine mx_lev hg h (fun r5 h => ?_)
  refine mx_if h (fun _ h => ?_) (fun _ h => ?_)
  · obtain ⟨u3, h⟩ := mx_rd_eq R13 h
    obtain ⟨u4, h⟩ := mx_rd_eq R13 h
    refine ⟨u3, nm_e ⟨u4, nm_e ?_⟩⟩
    refine mx_if h (fun _ h => mx_a214 R (Or.inl rfl) h hp) (fun _ h => ?_)
    obtain ⟨u5, h⟩ := mx_rd_eq R8 h
    refine ⟨u5, mx_nl hg h (fun q5 h => ?_)⟩
    refine mx_if h (fun _ h => mx_a214 R (Or.inl rfl) h hp) (fun _ h => ?_)
    obtain ⟨u6, h⟩ := mx_rd_eq R8 h
    refine ⟨u6, mx_nr hg h (fun q6 h => ?_)⟩
    exact mx_if h (fun _ h => mx_a214 R (Or.inl rfl) h hp) (fun _ h => mx_a214 R (Or.inr rfl) h hp)
  · obtain ⟨u3, h⟩ := mx_rd_eq R13 h
    refine ⟨u3, nm_e ?_⟩
    refine mx_if h (fun _ h => mx_a71 R (Or.inl rfl) h hp) (fun _ h => ?_)
    obtain ⟨u5, h⟩ := mx_rd_eq R8 h
    exact ⟨u5, mx_if h (fun _ h => mx_a71 R (Or.inl rfl) h hp) (fun _ h => mx_a71 R (Or.inr rfl) h hp)⟩
end
section
def mx_cAW (g : mx_G) (x1 : Int32) (k : mx_PS → Bool) : Nat → Int32 → mx_PS → Bool
  | 0 => fun _ _ => false
  | n + 1 => fun x2 s => match s with
    | (N, O, W, F, l5, l6, l7, l8, l9, l10, l11, l12, l13, l14) => if 15 ≤ x2 then k (N, O, W, F, l5, l6, l7, l8, l9, l10, l11, l12, l13, l14) else if W ≤ 0 then k (N, O, W, F, l5, l6, l7, l8, l9, l10, l11, l12, l13, l14) else mx_rd l14 (W - 1) fun x3 => mx_rd g.2.2.2 x3 fun t =>
      if t = 18 then k (N, O, W, F, l5, l6, l7, l8, l9, l10, l11, l12, l13, l14) else if x1 < 0 then mx_cApply g (N, O, W - 1, F, l5, l6, l7, l8, l9, l10, l11, l12, l13, l14) x3 (fun s => mx_cAW g x1 k n (x2 + 1) s)
      else mx_cTF g x3 x1 fun r => if r = 0 then k (N, O, W, F, l5, l6, l7, l8, l9, l10, l11, l12, l13, l14) else mx_cApply g (N, O, W - 1, F, l5, l6, l7, l8, l9, l10, l11, l12, l13, l14) x3 (fun s => mx_cAW g x1 k n (x2 + 1) s)
theorem mx_aw {post : St2 → Prop} {g : mx_G} {x1 : Int32} {k : mx_PS → Bool} {c : Int32} {a1 a2 a3 a4 : Nat → Int32} (hg : mx_RG g a1 a2 a3 a4)
    (hp : ∀ N O W F top ls z, mx_RR a4 ls z → k (N, O, W, F, ls) = true → post (c, N, O, W, F, top, a1, a2, a3, a4, z)) :
    ∀ (n : Nat) (x2 N O W F top : Int32) (a5 a6 a7 a8 a9 a10 a11 a12 a13 a14 : Nat → Int32) (l5 l6 l7 l8 : List Int32) (l9 : List mx_V) (l10 l11 l12 l13 l14 : List Int32), mx_RR a4 (l5, l6, l7, l8, l9, l10, l11, l12, l13, l14) (a5, a6, a7, a8, a9, a10, a11, a12, a13, a14) → mx_cAW g x1 k n x2 (N, O, W, F, l5, l6, l7, l8, l9, l10, l11, l12, l13, l14) = true → wX_applyWaiting_2 post x1 n x2 c N O W F top a1 a2 a3 a4 a5 a6 a7 a8 a9 a10 a11 a12 a13 a14 := by
  intro n
  induction n with
  | zero =>
    intro x2 N O W F top a5 a6 a7 a8 a9 a10 a11 a12 a13 a14 l5 l6 l7 l8 l9 l10 l11 l12 l13 l14 R h
    unfold mx_cAW at h
    exact absurd h (by decide)
  | succ n ih =>
    intro x2 N O W F top a5 a6 a7 a8 a9 a10 a11 a12 a13 a14 l5 l6 l7 l8 l9 l10 l11 l12 l13 l14 R h
    have R' := R
    obtain ⟨R5, R6, R7, R8, R9, R10, R11, R12, R13, R14⟩ := R'
    unfold mx_cAW at h
    dsimp only at h
    refine mx_if h (fun _ h => hp _ _ _ _ _ _ _ R h) (fun _ h => ?_)
    refine mx_if h (fun _ h => hp _ _ _ _ _ _ _ R h) (fun _ h => ?_)
    obtain ⟨u1, h⟩ := mx_rd_eq R14 h
    obtain ⟨u2, h⟩ := mx_rd_sh hg.2.2.2 h
    refine ⟨u1, u2, mx_ifi (mx_shp_eq (by decide)) h (fun _ h => hp _ _ _ _ _ _ _ R h) (fun _ h => ?_)⟩
    refine ⟨u1, nm_e (mx_if h (fun _ h => ?_) (fun _ h => ?_))⟩
    · refine br_f (by decide) (nm_e (mx_apply hg R h (fun N O W F top ls z R h => ?_)))
      obtain ⟨l5, l6, l7, l8, l9, l10, l11, l12, l13, l14⟩ := ls
      obtain ⟨a5, a6, a7, a8, a9, a10, a11, a12, a13, a14⟩ := z
      exact nm_e (ih _ _ _ _ _ _ _ _ _ _ _ _ _ _ _ _ _ _ _ _ _ _ _ _ _ _ R h)
    · refine mx_tf hg h (fun r h => mx_if h (fun _ h => ?_) (fun _ h => ?_))
      · exact br_t rfl (hp _ _ _ _ _ _ _ R h)
      · refine br_f (by decide) (nm_e (mx_apply hg R h (fun N O W F top ls z R h => ?_)))
        obtain ⟨l5, l6, l7, l8, l9, l10, l11, l12, l13, l14⟩ := ls
        obtain ⟨a5, a6, a7, a8, a9, a10, a11, a12, a13, a14⟩ := z
        exact nm_e (ih _ _ _ _ _ _ _ _ _ _ _ _ _ _ _ _ _ _ _ _ _ _ _ _ _ _ R h)
theorem mx_awt {post : St2 → Prop} {g : mx_G} {x1 : Int32} {k : mx_PS → Bool} {ls : mx_LS} {c N O W F top : Int32} {a1 a2 a3 a4 : Nat → Int32} {z : mx_ZS} (hg : mx_RG g a1 a2 a3 a4) (R : mx_RR a4 ls z) (h : mx_cAW g x1 k 16 0 (N, O, W, F, ls) = true)
    (hp : ∀ N O W F top ls z, mx_RR a4 ls z → k (N, O, W, F, ls) = true → post (c, N, O, W, F, top, a1, a2, a3, a4, z)) : wpX_applyWaiting post (c, N, O, W, F, top, a1, a2, a3, a4, z) x1 := by
  obtain ⟨l5, l6, l7, l8, l9, l10, l11, l12, l13, l14⟩ := ls
  obtain ⟨a5, a6, a7, a8, a9, a10, a11, a12, a13, a14⟩ := z
  exact ⟨16, mx_aw hg hp 16 0 _ _ _ _ _ _ _ _ _ _ _ _ _ _ _ _ _ _ _ _ _ _ _ _ _ R h⟩
def mx_cB66 (s : mx_PS) (p e : Int32) (k : Int32 → mx_PS → Bool) : Bool :=
  match s with
  | (N, O, W, F, l5, l6, l7, l8, l9, l10, l11, l12, l13, l14) => mx_wr l14 W p fun m14 => k 0 (N, O, W + 1, e, l5, l6, l7, l8, l9, l10, l11, l12, l13, m14)
def mx_cBegin (g : mx_G) (s : mx_PS) (p : Int32) (k : Int32 → mx_PS → Bool) : Bool :=
  match s with
  | (N, O, W, F, l5, l6, l7, l8, l9, l10, l11, l12, l13, l14) => mx_rd g.2.2.2 p fun t =>
    if 10 ≤ t then
      if F = 0 then mx_cB66 (N, O, W, F, l5, l6, l7, l8, l9, l10, l11, l12, l13, l14) p 0 k else if t = 18 then mx_cB66 (N, O, W, F, l5, l6, l7, l8, l9, l10, l11, l12, l13, l14) p 1 k else if 18 ≤ t then mx_cB66 (N, O, W, F, l5, l6, l7, l8, l9, l10, l11, l12, l13, l14) p 0 k else
      mx_cKind g p fun r => if r = 3 then mx_cB66 (N, O, W, F, l5, l6, l7, l8, l9, l10, l11, l12, l13, l14) p 1 k else mx_cB66 (N, O, W, F, l5, l6, l7, l8, l9, l10, l11, l12, l13, l14) p 0 k
    else mx_cMake (N, O, W, F, l5, l6, l7, l8, l9, l10, l11, l12, l13, l14) p (-1) (-1) 5 [(1, p.toNatClampNeg)] fun r s => match s with
      | (N, O, W, F, l5, l6, l7, l8, l9, l10, l11, l12, l13, l14) => mx_wr l13 O r fun m13 => k 1 (N, O + 1, W, F, l5, l6, l7, l8, l9, l10, l11, l12, m13, l14)
theorem mx_b66 {post : Int32 → St2 → Prop} {p e : Int32} {k : Int32 → mx_PS → Bool} {c N O W F top : Int32} {a1 a2 a3 a4 a5 a6 a7 a8 a9 a10 a11 a12 a13 a14 : Nat → Int32} {l5 l6 l7 l8 : List Int32} {l9 : List mx_V} {l10 l11 l12 l13 l14 : List Int32} (R : mx_RR a4 (l5, l6, l7, l8, l9, l10, l11, l12, l13, l14) (a5, a6, a7, a8, a9, a10, a11, a12, a13, a14)) (he : e = 0 ∨ e = 1) (h : mx_cB66 (N, O, W, F, l5, l6, l7, l8, l9, l10, l11, l12, l13, l14) p e k = true)
    (hp : ∀ r N O W F top ls z, mx_RR a4 ls z → k r (N, O, W, F, ls) = true → post r (c, N, O, W, F, top, a1, a2, a3, a4, z)) : wX_begin_66 post p e c N O W F top a1 a2 a3 a4 a5 a6 a7 a8 a9 a10 a11 a12 a13 a14 := by
  obtain ⟨R5, R6, R7, R8, R9, R10, R11, R12, R13, R14⟩ := R
  unfold mx_cB66 at h
  dsimp only at h
  obtain ⟨u1, m14, S14, h⟩ := mx_wr_eq R14 h
  exact ⟨(mx_nar he).1, (mx_nar he).2, u1, nm_e (nm_e (hp _ _ _ _ _ _ _ _ (mx_mk R5 R6 R7 R8 R9 R10 R11 R12 R13 S14) h))⟩
theorem mx_ge10 {x : Int32} : 10 ≤ x ↔ ¬ x < 10 := by
  rw [Int32.not_lt]
theorem mx_shp10 {x : Int32} : 10 ≤ x ↔ 10 ≤ mx_shp x := by
  by_cases h : x < 10
  · rw [mx_shp_lo h, mx_ge10]
    constructor
    · intro z
      exact absurd h z
    · intro z
      exact absurd z (by decide)
  · rw [mx_shp_hi h]
theorem mx_begin {post : Int32 → St2 → Prop} {g : mx_G} {p : Int32} {k : Int32 → mx_PS → Bool} {ls : mx_LS} {c N O W F top : Int32} {a1 a2 a3 a4 : Nat → Int32} {z : mx_ZS} (hg : mx_RG g a1 a2 a3 a4) (R : mx_RR a4 ls z) (h : mx_cBegin g (N, O, W, F, ls) p k = true)
    (hp : ∀ r N O W F top ls z, mx_RR a4 ls z → k r (N, O, W, F, ls) = true → post r (c, N, O, W, F, top, a1, a2, a3, a4, z)) : wpX_begin post (c, N, O, W, F, top, a1, a2, a3, a4, z) p := by
  obtain ⟨l5, l6, l7, l8, l9, l10, l11, l12, l13, l14⟩ := ls
  obtain ⟨a5, a6, a7, a8, a9, a10, a11, a12, a13, a14⟩ := z
  have R' := R
  obtain ⟨R5, R6, R7, R8, R9, R10, R11, R12, R13, R14⟩ := R'
  unfold mx_cBegin at h
  dsimp only at h
  obtain ⟨u1, h⟩ := mx_rd_sh hg.2.2.2 h
  refine ⟨u1, nm_e ?_⟩
  refine mx_ifi mx_shp10 h (fun g1 h => ?_) (fun g1 h => ?_)
  · have g2 := mx_ge10.mp g1
    refine mx_if h (fun _ h => mx_b66 R (Or.inl rfl) h hp) (fun _ h => ?_)
    refine mx_ifi (mx_shp_eq (by decide)) h (fun _ h => mx_b66 R (Or.inr rfl) h hp) (fun _ h => ?_)
    rw [mx_shp_hi g2] at h
    refine br_f g2 (mx_if h (fun _ h => ?_) (fun _ h => ?_))
    · exact br_t rfl (mx_b66 R (Or.inl rfl) h hp)
    · refine br_f (by decide) (mx_kind hg h (fun r h => ?_))
      exact mx_if h (fun _ h => mx_b66 R (Or.inr rfl) h hp) (fun _ h => mx_b66 R (Or.inl rfl) h hp)
  · refine mx_make (v := [(1, p.toNatClampNeg)]) R (mx_ev_one _ _).symm h (fun r N O W F top ls z R h => ?_)
    obtain ⟨l5, l6, l7, l8, l9, l10, l11, l12, l13, l14⟩ := ls
    obtain ⟨a5, a6, a7, a8, a9, a10, a11, a12, a13, a14⟩ := z
    obtain ⟨R5, R6, R7, R8, R9, R10, R11, R12, R13, R14⟩ := R
    dsimp only at h
    obtain ⟨u2, m13, S13, h⟩ := mx_wr_eq R13 h
    exact ⟨u2, nm_e (nm_e (hp _ _ _ _ _ _ _ _ (mx_mk R5 R6 R7 R8 R9 R10 R11 R12 S13 R14) h))⟩
def mx_cClose (g : mx_G) (s : mx_PS) (p : Int32) (k : mx_PS → Bool) : Bool :=
  mx_cAW g (-1) (fun s => match s with
    | (N, O, W, F, l5, l6, l7, l8, l9, l10, l11, l12, l13, l14) => if W = 0 then k (N, O, W, 0, l5, l6, l7, l8, l9, l10, l11, l12, l13, l14) else mx_rd l13 (O - 1) fun x2 => mx_rd l10 x2 fun y => mx_wr l10 x2 (y + 1) fun m10 => mx_wr l8 x2 5 fun m8 => mx_rd l14 (W - 1) fun q => mx_wr l11 x2 q fun m11 => mx_wr l12 x2 p fun m12 =>
      k (N, O, W - 1, F, l5, l6, l7, m8, l9, m10, m11, m12, l13, l14)) 16 0 s
theorem mx_close {post : St2 → Prop} {g : mx_G} {p : Int32} {k : mx_PS → Bool} {ls : mx_LS} {c N O W F top : Int32} {a1 a2 a3 a4 : Nat → Int32} {z : mx_ZS} (hg : mx_RG g a1 a2 a3 a4) (R : mx_RR a4 ls z) (h : mx_cClose g (N, O, W, F, ls) p k = true)
    (hp : ∀ N O W F top ls z, mx_RR a4 ls z → k (N, O, W, F, ls) = true → post (c, N, O, W, F, top, a1, a2, a3, a4, z)) : wpX_closeBracket post (c, N, O, W, F, top, a1, a2, a3, a4, z) p := by
  obtain ⟨l5, l6, l7, l8, l9, l10, l11, l12, l13, l14⟩ := ls
  obtain ⟨a5, a6, a7, a8, a9, a10, a11, a12, a13, a14⟩ := z
  unfold mx_cClose at h
  unfold wpX_closeBracket
  refine mx_awt hg R h (fun N O W F top ls z R h => ?_)
  obtain ⟨l5, l6, l7, l8, l9, l10, l11, l12, l13, l14⟩ := ls
  obtain ⟨a5, a6, a7, a8, a9, a10, a11, a12, a13, a14⟩ := z
  have R' := R
  obtain ⟨R5, R6, R7, R8, R9, R10, R11, R12, R13, R14⟩ := R'
  dsimp only at h
  refine mx_if h (fun _ h => hp _ _ _ _ _ _ _ R h) (fun _ h => nm_e ?_)
  obtain ⟨u1, h⟩ := mx_rd_eq R13 h
  obtain ⟨u2, h⟩ := mx_rd_eq R10 h
  obtain ⟨u3, m10, S10, h⟩ := mx_wr_eq R10 h
  obtain ⟨u4, m8, S8, h⟩ := mx_wr_eq R8 h
  obtain ⟨u5, h⟩ := mx_rd_eq R14 h
  obtain ⟨u6, m11, S11, h⟩ := mx_wr_eq R11 h
  obtain ⟨u7, m12, S12, h⟩ := mx_wr_eq R12 h
  exact ⟨u1, nm_e ⟨u2, u3, nm_e ⟨u4, nm_e ⟨u5, u6, nm_e ⟨u7, nm_e (hp _ _ _ _ _ _ _ (mx_mk R5 R6 R7 S8 R9 S10 S11 S12 R13 R14) h)⟩⟩⟩⟩⟩
def mx_cGoOn (g : mx_G) (s : mx_PS) (p : Int32) (k : Int32 → mx_PS → Bool) : Bool :=
  match s with
  | (N, O, W, F, l5, l6, l7, l8, l9, l10, l11, l12, l13, l14) => mx_rd g.2.2.2 p fun t =>
    if t = 19 then mx_cClose g (N, O, W, F, l5, l6, l7, l8, l9, l10, l11, l12, l13, l14) p (k 1) else if 10 ≤ t then
      if 18 ≤ t then k 1 (N, O, W, 0, l5, l6, l7, l8, l9, l10, l11, l12, l13, l14) else
      mx_cKind g p fun r => if r = 3 then k 1 (N, O, W, 0, l5, l6, l7, l8, l9, l10, l11, l12, l13, l14) else mx_cLev g p fun q => mx_cAW g q (fun s => mx_cKind g p fun r => if r = 4 then mx_cApply g s p (k 1) else match s with
        | (N, O, W, F, l5, l6, l7, l8, l9, l10, l11, l12, l13, l14) => mx_wr l14 W p fun m14 => k 0 (N, O, W + 1, F, l5, l6, l7, l8, l9, l10, l11, l12, l13, m14)) 16 0 (N, O, W, F, l5, l6, l7, l8, l9, l10, l11, l12, l13, l14)
    else k 1 (N, O, W, 0, l5, l6, l7, l8, l9, l10, l11, l12, l13, l14)
theorem mx_goOn {post : Int32 → St2 → Prop} {g : mx_G} {p : Int32} {k : Int32 → mx_PS → Bool} {ls : mx_LS} {c N O W F top : Int32} {a1 a2 a3 a4 : Nat → Int32} {z : mx_ZS} (hg : mx_RG g a1 a2 a3 a4) (R : mx_RR a4 ls z) (h : mx_cGoOn g (N, O, W, F, ls) p k = true)
    (hp : ∀ r N O W F top ls z, mx_RR a4 ls z → k r (N, O, W, F, ls) = true → post r (c, N, O, W, F, top, a1, a2, a3, a4, z)) : wpX_goOn post (c, N, O, W, F, top, a1, a2, a3, a4, z) p := by
  obtain ⟨l5, l6, l7, l8, l9, l10, l11, l12, l13, l14⟩ := ls
  obtain ⟨a5, a6, a7, a8, a9, a10, a11, a12, a13, a14⟩ := z
  unfold mx_cGoOn at h
  dsimp only at h
  obtain ⟨u1, h⟩ := mx_rd_sh hg.2.2.2 h
  refine ⟨u1, nm_e ?_⟩
  refine mx_ifi (mx_shp_eq (by decide)) h (fun _ h => ?_) (fun _ h => ?_)
  · refine mx_close hg R h (fun N O W F top ls z R h => ?_)
    obtain ⟨a5, a6, a7, a8, a9, a10, a11, a12, a13, a14⟩ := z
    exact hp _ _ _ _ _ _ _ _ R h
  · by_cases g1 : a4 p.toNatClampNeg < 10
    · rw [if_neg (fun z => absurd g1 (mx_ge10.mp (mx_shp10.mpr z)))] at h
      exact br_t g1 (br_t rfl (hp _ _ _ _ _ _ _ _ R h))
    · rw [if_pos (mx_shp10.mp (mx_ge10.mpr g1)), mx_shp_hi g1] at h
      refine br_f g1 (mx_if h (fun _ h => br_t rfl (hp _ _ _ _ _ _ _ _ R h)) (fun _ h => br_f (by decide) ?_))
      refine mx_kind hg h (fun r h => mx_if h (fun _ h => hp _ _ _ _ _ _ _ _ R h) (fun _ h => ?_))
      refine mx_lev hg h (fun q h => mx_awt hg R h (fun N O W F top ls z R h => ?_))
      obtain ⟨l5, l6, l7, l8, l9, l10, l11, l12, l13, l14⟩ := ls
      obtain ⟨a5, a6, a7, a8, a9, a10, a11, a12, a13, a14⟩ := z
      have R' := R
      obtain ⟨R5, R6, R7, R8, R9, R10, R11, R12, R13, R14⟩ := R'
      refine mx_kind hg h (fun r h => mx_if h (fun _ h => ?_) (fun _ h => ?_))
      · refine mx_apply hg R h (fun N O W F top ls z R h => ?_)
        obtain ⟨a5, a6, a7, a8, a9, a10, a11, a12, a13, a14⟩ := z
        exact hp _ _ _ _ _ _ _ _ R h
      · dsimp only at h
        obtain ⟨u2, m14, S14, h⟩ := mx_wr_eq R14 h
        exact ⟨u2, nm_e (nm_e (hp _ _ _ _ _ _ _ _ (mx_mk R5 R6 R7 R8 R9 R10 R11 R12 R13 S14) h))⟩
end
section
def mx_cRA74 (g : mx_G) (x1 : Int32) (s : mx_PS) (kf : Bool) (kt : Int32 → mx_PS → Bool) : Bool :=
  match s with
  | (N, O, W, F, l5, l6, l7, l8, l9, l10, l11, l12, l13, l14) => if F = 0 then kf else if x1 = 0 then kf else mx_cAW g (-1) (fun s => match s with
    | (N, O, W, F, l5, l6, l7, l8, l9, l10, l11, l12, l13, l14) => if F = 0 then kf else if W = 0 then mx_rd l13 0 fun tp => kt tp (N, O, W, 1, l5, l6, l7, l8, l9, l10, l11, l12, l13, l14) else kf) 16 0 (N, O, W, 1, l5, l6, l7, l8, l9, l10, l11, l12, l13, l14)
def mx_cRA35 (g : mx_G) (c : Int32) (kf : Bool) (kt : Int32 → mx_PS → Bool) : Nat → Int32 → Int32 → mx_PS → Bool
  | 0 => fun _ _ _ => false
  | n + 1 => fun x1 x2 s => match s with
    | (N, O, W, F, l5, l6, l7, l8, l9, l10, l11, l12, l13, l14) => if c ≤ x2 then mx_cRA74 g x1 (N, O, W, F, l5, l6, l7, l8, l9, l10, l11, l12, l13, l14) kf kt else if F = 0 then mx_cRA74 g x1 (N, O, W, F, l5, l6, l7, l8, l9, l10, l11, l12, l13, l14) kf kt else
      if x1 = 0 then mx_cBegin g (N, O, W, F, l5, l6, l7, l8, l9, l10, l11, l12, l13, l14) x2 (fun r s => mx_cRA35 g c kf kt n r (x2 + 1) s) else mx_cGoOn g (N, O, W, F, l5, l6, l7, l8, l9, l10, l11, l12, l13, l14) x2 (fun r s => mx_cRA35 g c kf kt n r (x2 + 1) s)
def mx_cRead (g : mx_G) (kf : Bool) (kt : Int32 → mx_PS → Bool) : Bool :=
  if nI g.2.2.2.length ≤ 0 then mx_cRA35 g (nI g.2.2.2.length) kf kt 17 0 0 (0, 0, 0, 0, [], [], [], [], [], [], [], [], [], [])
  else mx_cRA35 g (nI g.2.2.2.length) kf kt 17 0 0 (0, 0, 0, 1, [], [], [], [], [], [], [], [], [], [])
theorem mx_ra126 {post : Int32 → St2 → Prop} {e c N O W F top : Int32} {a1 a2 a3 a4 a5 a6 a7 a8 a9 a10 a11 a12 a13 a14 : Nat → Int32} (he : e = 0 ∨ e = 1) (h : post e (c, N, O, W, e, a13 0, a1, a2, a3, a4, a5, a6, a7, a8, a9, a10, a11, a12, a13, a14)) : wX_readAll_126 post e c N O W F top a1 a2 a3 a4 a5 a6 a7 a8 a9 a10 a11 a12 a13 a14 :=
  ⟨(mx_nar he).1, (mx_nar he).2, nm_e ⟨(mx_nar he).1, h⟩⟩
theorem mx_ra91 {post : Int32 → St2 → Prop} {c N O W F top : Int32} {a1 a2 a3 a4 a5 a6 a7 a8 a9 a10 a11 a12 a13 a14 : Nat → Int32} (h : post 0 (c, N, O, W, 0, top, a1, a2, a3, a4, a5, a6, a7, a8, a9, a10, a11, a12, a13, a14)) : wX_readAll_90 post c N O W F top a1 a2 a3 a4 a5 a6 a7 a8 a9 a10 a11 a12 a13 a14 :=
  ⟨(mx_nar (Or.inl rfl)).1, (mx_nar (Or.inl rfl)).2, br_t rfl ⟨(mx_nar (Or.inl rfl)).1, h⟩⟩
theorem mx_ra74 {post : Int32 → St2 → Prop} {g : mx_G} {x1 : Int32} {kf : Bool} {kt : Int32 → mx_PS → Bool} {c N O W F top : Int32} {a1 a2 a3 a4 a5 a6 a7 a8 a9 a10 a11 a12 a13 a14 : Nat → Int32} {l5 l6 l7 l8 : List Int32} {l9 : List mx_V} {l10 l11 l12 l13 l14 : List Int32} (hg : mx_RG g a1 a2 a3 a4) (R : mx_RR a4 (l5, l6, l7, l8, l9, l10, l11, l12, l13, l14) (a5, a6, a7, a8, a9, a10, a11, a12, a13, a14)) (h : mx_cRA74 g x1 (N, O, W, F, l5, l6, l7, l8, l9, l10, l11, l12, l13, l14) kf kt = true)
    (hf : kf = true → ∀ N O W F top z, post 0 (c, N, O, W, F, top, a1, a2, a3, a4, z)) (ht : ∀ N O W F top ls z, mx_RR a4 ls z → kt top (N, O, W, F, ls) = true → post 1 (c, N, O, W, F, top, a1, a2, a3, a4, z)) : wX_readAll_74 post x1 c N O W F top a1 a2 a3 a4 a5 a6 a7 a8 a9 a10 a11 a12 a13 a14 := by
  unfold mx_cRA74 at h
  dsimp only at h
  refine mx_if h (fun _ h => mx_ra91 (hf h _ _ _ _ _ _)) (fun _ h => ?_)
  refine mx_if h (fun _ h => mx_ra91 (hf h _ _ _ _ _ _)) (fun _ h => ?_)
  refine ⟨(mx_nar (Or.inr rfl)).1, (mx_nar (Or.inr rfl)).2, br_f (by decide) ?_⟩
  refine mx_awt hg R h (fun N O W F top ls z R h => ?_)
  obtain ⟨l5, l6, l7, l8, l9, l10, l11, l12, l13, l14⟩ := ls
  obtain ⟨a5, a6, a7, a8, a9, a10, a11, a12, a13, a14⟩ := z
  have R' := R
  obtain ⟨R5, R6, R7, R8, R9, R10, R11, R12, R13, R14⟩ := R'
  dsimp only at h
  refine mx_if h (fun _ h => ?_) (fun _ h => mx_if h (fun _ h => ?_) (fun _ h => ?_))
  · exact mx_ra126 (Or.inl rfl) (hf h _ _ _ _ _ _)
  · obtain ⟨_, h⟩ := mx_rd_eq R13 h
    rw [sb_cl0] at h
    exact mx_ra126 (Or.inr rfl) (ht _ _ _ _ _ _ _ R h)
  · exact mx_ra126 (Or.inl rfl) (hf h _ _ _ _ _ _)
theorem mx_ra35 {post : Int32 → St2 → Prop} {g : mx_G} {kf : Bool} {kt : Int32 → mx_PS → Bool} {c : Int32} {a1 a2 a3 a4 : Nat → Int32} (hg : mx_RG g a1 a2 a3 a4)
    (hf : kf = true → ∀ N O W F top z, post 0 (c, N, O, W, F, top, a1, a2, a3, a4, z)) (ht : ∀ N O W F top ls z, mx_RR a4 ls z → kt top (N, O, W, F, ls) = true → post 1 (c, N, O, W, F, top, a1, a2, a3, a4, z)) :
    ∀ (n : Nat) (x1 x2 N O W F top : Int32) (a5 a6 a7 a8 a9 a10 a11 a12 a13 a14 : Nat → Int32) (l5 l6 l7 l8 : List Int32) (l9 : List mx_V) (l10 l11 l12 l13 l14 : List Int32), mx_RR a4 (l5, l6, l7, l8, l9, l10, l11, l12, l13, l14) (a5, a6, a7, a8, a9, a10, a11, a12, a13, a14) → mx_cRA35 g c kf kt n x1 x2 (N, O, W, F, l5, l6, l7, l8, l9, l10, l11, l12, l13, l14) = true → wX_readAll_35 post n x1 x2 c N O W F top a1 a2 a3 a4 a5 a6 a7 a8 a9 a10 a11 a12 a13 a14 := by
  intro n
  induction n with
  | zero =>
    intro x1 x2 N O W F top a5 a6 a7 a8 a9 a10 a11 a12 a13 a14 l5 l6 l7 l8 l9 l10 l11 l12 l13 l14 R h
    unfold mx_cRA35 at h
    exact absurd h (by decide)
  | succ n ih =>
    intro x1 x2 N O W F top a5 a6 a7 a8 a9 a10 a11 a12 a13 a14 l5 l6 l7 l8 l9 l10 l11 l12 l13 l14 R h
    unfold mx_cRA35 at h
    dsimp only at h
    refine mx_if h (fun _ h => mx_ra74 hg R h hf ht) (fun _ h => ?_)
    refine mx_if h (fun _ h => mx_ra74 hg R h hf ht) (fun _ h => ?_)
    refine mx_if h (fun _ h => ?_) (fun _ h => ?_)
    · refine mx_begin hg R h (fun r N O W F top ls z R h => ?_)
      obtain ⟨l5, l6, l7, l8, l9, l10, l11, l12, l13, l14⟩ := ls
      obtain ⟨a5, a6, a7, a8, a9, a10, a11, a12, a13, a14⟩ := z
      exact nm_e (ih _ _ _ _ _ _ _ _ _ _ _ _ _ _ _ _ _ _ _ _ _ _ _ _ _ _ _ R h)
    · refine mx_goOn hg R h (fun r N O W F top ls z R h => ?_)
      obtain ⟨l5, l6, l7, l8, l9, l10, l11, l12, l13, l14⟩ := ls
      obtain ⟨a5, a6, a7, a8, a9, a10, a11, a12, a13, a14⟩ := z
      exact nm_e (ih _ _ _ _ _ _ _ _ _ _ _ _ _ _ _ _ _ _ _ _ _ _ _ _ _ _ _ R h)
theorem mx_read {post : Int32 → St2 → Prop} {g : mx_G} {kf : Bool} {kt : Int32 → mx_PS → Bool} {c N O W F top : Int32} {a1 a2 a3 a4 : Nat → Int32} {z : mx_ZS} (hg : mx_RG g a1 a2 a3 a4) (hc : c = nI g.2.2.2.length) (h : mx_cRead g kf kt = true)
    (hf : kf = true → ∀ N O W F top z, post 0 (c, N, O, W, F, top, a1, a2, a3, a4, z)) (ht : ∀ N O W F top ls z, mx_RR a4 ls z → kt top (N, O, W, F, ls) = true → post 1 (c, N, O, W, F, top, a1, a2, a3, a4, z)) : wpX_readAll post (c, N, O, W, F, top, a1, a2, a3, a4, z) := by
  obtain ⟨a5, a6, a7, a8, a9, a10, a11, a12, a13, a14⟩ := z
  unfold mx_cRead at h
  rw [← hc] at h
  refine mx_if h (fun _ h => ⟨17, ?_⟩) (fun _ h => ⟨17, ?_⟩)
  · exact mx_ra35 hg hf ht 17 0 0 _ _ _ _ _ _ _ _ _ _ _ _ _ _ _ _ _ _ _ _ _ _ _ _ _ (mx_mk mx_nil mx_nil mx_nil mx_nil mx_nil mx_nil mx_nil mx_nil mx_nil mx_nil) h
  · exact mx_ra35 hg hf ht 17 0 0 _ _ _ _ _ _ _ _ _ _ _ _ _ _ _ _ _ _ _ _ _ _ _ _ _ (mx_mk mx_nil mx_nil mx_nil mx_nil mx_nil mx_nil mx_nil mx_nil mx_nil mx_nil) h
end
section
/-- the reader's public state: its tables, and its text tx -/
def mx_U (K1 K2 K3 tx : List Int32) (u : St2) : Prop :=
  match u with
  | (c, N, O, W, F, top, a1, a2, a3, a4, z) => c = nI tx.length ∧ tx.length ≤ 15 ∧ mx_RA 5 K1 a1 ∧ mx_RA 8 K2 a2 ∧ mx_RA 8 K3 a3 ∧ mx_RA 16 tx a4
/-- the text's array -/
def mx_t (u : St2) : Nat → Int32 :=
  match u with
  | (c, N, O, W, F, top, a1, a2, a3, a4, z) => a4
def mx_g (K1 K2 K3 tx : List Int32) : mx_G := (K1, K2, K3, tx.map mx_shp)
theorem mx_map {tx : List Int32} {a : Nat → Int32} (R : mx_RA 16 tx a) : mx_RT (tx.map mx_shp) a := by
  refine ⟨by rw [List.length_map]; exact R.1, fun j h => ?_⟩
  rw [List.getElem_map]
  rw [List.length_map] at h
  rw [R.2 j h]
theorem mx_U_g {K1 K2 K3 tx : List Int32} {c N O W F top : Int32} {a1 a2 a3 a4 : Nat → Int32} {z : mx_ZS} (U : mx_U K1 K2 K3 tx (c, N, O, W, F, top, a1, a2, a3, a4, z)) : mx_RG (mx_g K1 K2 K3 tx) a1 a2 a3 a4 ∧ c = nI (mx_g K1 K2 K3 tx).2.2.2.length := by
  obtain ⟨h1, h2, h3, h4, h5, h6⟩ := U
  refine ⟨⟨h3, h4, h5, mx_map h6⟩, ?_⟩
  show c = nI (tx.map mx_shp).length
  rw [List.length_map, h1]
theorem mx_U_keep {K1 K2 K3 tx : List Int32} {c N O W F top : Int32} {a1 a2 a3 a4 : Nat → Int32} {z : mx_ZS} {N' O' W' F' top' : Int32} {z' : mx_ZS} (U : mx_U K1 K2 K3 tx (c, N, O, W, F, top, a1, a2, a3, a4, z)) : mx_U K1 K2 K3 tx (c, N', O', W', F', top', a1, a2, a3, a4, z') := U
theorem mx_q {post : Int32 → St2 → Prop} {K1 K2 K3 tx : List Int32} {u : St2} {kf : Bool} {kt : Int32 → mx_PS → Bool} (U : mx_U K1 K2 K3 tx u) (h : mx_cRead (mx_g K1 K2 K3 tx) kf kt = true)
    (hf : kf = true → ∀ u, mx_U K1 K2 K3 tx u → post 0 u)
    (ht : ∀ c N O W F top a1 a2 a3 a4 ls z, mx_RG (mx_g K1 K2 K3 tx) a1 a2 a3 a4 → mx_RR a4 ls z → mx_U K1 K2 K3 tx (c, N, O, W, F, top, a1, a2, a3, a4, z) → kt top (N, O, W, F, ls) = true → post 1 (c, N, O, W, F, top, a1, a2, a3, a4, z)) : wpX_readAll post u := by
  obtain ⟨c, N, O, W, F, top, a1, a2, a3, a4, z⟩ := u
  obtain ⟨hg, hc⟩ := mx_U_g U
  exact mx_read hg hc h (fun hk N O W F top z => hf hk _ (mx_U_keep U)) (fun N O W F top ls z R hk => ht _ _ _ _ _ _ _ _ _ _ _ _ hg R (mx_U_keep U) hk)
theorem mx_reads {post : Int32 → St2 → Prop} {K1 K2 K3 tx : List Int32} {u : St2} (e : Bool) (U : mx_U K1 K2 K3 tx u) (h : mx_cRead (mx_g K1 K2 K3 tx) (!e) (fun _ _ => e) = true)
    (hp : ∀ u, mx_U K1 K2 K3 tx u → post (if e then 1 else 0) u) : wpX_reads post u := by
  obtain ⟨c, N, O, W, F, top, a1, a2, a3, a4, a5, a6, a7, a8, a9, a10, a11, a12, a13, a14⟩ := u
  unfold wpX_reads
  refine mx_q U h (fun hk u U => ?_) (fun c N O W F top a1 a2 a3 a4 ls z _ _ U hk => ?_)
  · obtain ⟨c, N, O, W, F, top, a1, a2, a3, a4, a5, a6, a7, a8, a9, a10, a11, a12, a13, a14⟩ := u
    have he : e = false := by
      cases e
      · rfl
      · exact absurd hk (by decide)
    subst he
    exact ⟨(mx_nar (Or.inl rfl)).1, hp _ U⟩
  · obtain ⟨a5, a6, a7, a8, a9, a10, a11, a12, a13, a14⟩ := z
    subst hk
    exact ⟨(mx_nar (Or.inr rfl)).1, hp _ U⟩
def mx_qStr (g : mx_G) (e : Int32) : Bool := mx_cRead g (decide (-4 = e)) fun tp s => match s with
  | (N, O, W, F, l5, l6, l7, l8, l9, l10, l11, l12, l13, l14) => mx_rd l8 tp fun x => decide (x = e)
theorem mx_strength {post : Int32 → St2 → Prop} {K1 K2 K3 tx : List Int32} {u : St2} (e : Int32) (U : mx_U K1 K2 K3 tx u) (h : mx_qStr (mx_g K1 K2 K3 tx) e = true)
    (hp : ∀ u, mx_U K1 K2 K3 tx u → post e u) : wpX_strength post u := by
  obtain ⟨c, N, O, W, F, top, a1, a2, a3, a4, a5, a6, a7, a8, a9, a10, a11, a12, a13, a14⟩ := u
  unfold wpX_strength
  refine mx_q U h (fun hk u U => ?_) (fun c N O W F top a1 a2 a3 a4 ls z _ R U hk => ?_)
  · obtain ⟨c, N, O, W, F, top, a1, a2, a3, a4, a5, a6, a7, a8, a9, a10, a11, a12, a13, a14⟩ := u
    have he := of_decide_eq_true hk
    subst he
    exact br_t rfl (hp _ U)
  · obtain ⟨l5, l6, l7, l8, l9, l10, l11, l12, l13, l14⟩ := ls
    obtain ⟨a5, a6, a7, a8, a9, a10, a11, a12, a13, a14⟩ := z
    obtain ⟨R5, R6, R7, R8, R9, R10, R11, R12, R13, R14⟩ := R
    obtain ⟨u1, hk⟩ := mx_rd_eq R8 hk
    have he := of_decide_eq_true hk
    subst he
    exact br_f (by decide) ⟨u1, hp _ U⟩
def mx_qVal (g : mx_G) (e : mx_V) : Bool := mx_cRead g (decide ([] = e)) fun tp s => match s with
  | (N, O, W, F, l5, l6, l7, l8, l9, l10, l11, l12, l13, l14) => mx_rd l9 tp fun x => decide (x = e)
theorem mx_value {post : Int32 → St2 → Prop} {K1 K2 K3 tx : List Int32} {u : St2} (e : mx_V) (U : mx_U K1 K2 K3 tx u) (h : mx_qVal (mx_g K1 K2 K3 tx) e = true)
    (hp : ∀ u, mx_U K1 K2 K3 tx u → post (mx_ev (mx_t u) e) u) : wpX_value post u := by
  obtain ⟨c, N, O, W, F, top, a1, a2, a3, a4, a5, a6, a7, a8, a9, a10, a11, a12, a13, a14⟩ := u
  unfold wpX_value
  refine mx_q U h (fun hk u U => ?_) (fun c N O W F top a1 a2 a3 a4 ls z _ R U hk => ?_)
  · obtain ⟨c, N, O, W, F, top, a1, a2, a3, a4, a5, a6, a7, a8, a9, a10, a11, a12, a13, a14⟩ := u
    have he := of_decide_eq_true hk
    subst he
    exact br_t rfl (hp _ U)
  · obtain ⟨l5, l6, l7, l8, l9, l10, l11, l12, l13, l14⟩ := ls
    obtain ⟨a5, a6, a7, a8, a9, a10, a11, a12, a13, a14⟩ := z
    obtain ⟨R5, R6, R7, R8, R9, R10, R11, R12, R13, R14⟩ := R
    obtain ⟨u1, x, hx, hk⟩ := mx_rd_ok R9 hk
    have he := of_decide_eq_true hk
    subst he
    have hq := hp _ U
    refine br_f (by decide) ⟨u1, ?_⟩
    rw [hx]
    exact hq
def mx_qRoot (g : mx_G) (e : Int32) : Bool := mx_cRead g (decide (-4 = e)) fun tp s => match s with
  | (N, O, W, F, l5, l6, l7, l8, l9, l10, l11, l12, l13, l14) => mx_rd l6 tp fun x => if x < 0 then decide (-4 = e) else mx_rd l5 tp fun y => decide (y = e)
theorem mx_root {post : Int32 → St2 → Prop} {K1 K2 K3 tx : List Int32} {u : St2} (e : Int32) (U : mx_U K1 K2 K3 tx u) (h : mx_qRoot (mx_g K1 K2 K3 tx) e = true)
    (hp : ∀ u, mx_U K1 K2 K3 tx u → post e u) : wpX_root post u := by
  obtain ⟨c, N, O, W, F, top, a1, a2, a3, a4, a5, a6, a7, a8, a9, a10, a11, a12, a13, a14⟩ := u
  unfold wpX_root
  refine mx_q U h (fun hk u U => ?_) (fun c N O W F top a1 a2 a3 a4 ls z _ R U hk => ?_)
  · obtain ⟨c, N, O, W, F, top, a1, a2, a3, a4, a5, a6, a7, a8, a9, a10, a11, a12, a13, a14⟩ := u
    have he := of_decide_eq_true hk
    subst he
    exact br_t rfl (hp _ U)
  · obtain ⟨l5, l6, l7, l8, l9, l10, l11, l12, l13, l14⟩ := ls
    obtain ⟨a5, a6, a7, a8, a9, a10, a11, a12, a13, a14⟩ := z
    obtain ⟨R5, R6, R7, R8, R9, R10, R11, R12, R13, R14⟩ := R
    obtain ⟨u1, hk⟩ := mx_rd_eq R6 hk
    refine br_f (by decide) ⟨u1, mx_if hk (fun _ hk => ?_) (fun _ hk => ?_)⟩
    · have he := of_decide_eq_true hk
      subst he
      exact hp _ U
    · obtain ⟨u2, hk⟩ := mx_rd_eq R5 hk
      have he := of_decide_eq_true hk
      subst he
      exact ⟨u2, hp _ U⟩
end
section
def mx_cPA (s : mx_PS) (p i : Int32) (k : Int32 → Bool) : Bool := match s with
  | (N, O, W, F, l5, l6, l7, l8, l9, l10, l11, l12, l13, l14) => mx_rd l11 p fun f => mx_rd l10 p fun q => if f + q ≤ i then mx_rd l12 p fun t => if i ≤ t - q then k q else k (t - i) else k (i - f)
def mx_cIn (s : mx_PS) (p i : Int32) (k : Int32 → Bool) : Bool := match s with
  | (N, O, W, F, l5, l6, l7, l8, l9, l10, l11, l12, l13, l14) => mx_rd l11 p fun f => if i < f then k 0 else mx_rd l12 p fun t => if t < i then k 0 else k 1
def mx_cPW30 (s : mx_PS) (x2 x4 : Int32) (k : Int32 → Bool) : Bool := if x4 < 0 then k (-1) else mx_cIn s x4 x2 fun r => if r = 0 then k (-1) else k x4
def mx_cPW (s : mx_PS) (p i : Int32) (k : Int32 → Bool) : Bool := match s with
  | (N, O, W, F, l5, l6, l7, l8, l9, l10, l11, l12, l13, l14) => mx_rd l6 p fun x3 => mx_rd l7 p fun x4 => if x3 < 0 then mx_cPW30 (N, O, W, F, l5, l6, l7, l8, l9, l10, l11, l12, l13, l14) i x4 k else mx_cIn (N, O, W, F, l5, l6, l7, l8, l9, l10, l11, l12, l13, l14) x3 i fun r => if r = 0 then mx_cPW30 (N, O, W, F, l5, l6, l7, l8, l9, l10, l11, l12, l13, l14) i x4 k else k x3
def mx_cD35 (s : mx_PS) (i : Int32) (k : Int32 → Bool) : Nat → Int32 → Int32 → Int32 → Bool
  | 0 => fun _ _ _ => false
  | n + 1 => fun x3 x4 x5 => if 15 ≤ x5 then k x4 else if x3 < 0 then k x4 else mx_cPA s x3 i fun r => match s with
    | (N, O, W, F, l5, l6, l7, l8, l9, l10, l11, l12, l13, l14) => mx_rd l10 x3 fun q =>
      if r = q then mx_cPW (N, O, W, F, l5, l6, l7, l8, l9, l10, l11, l12, l13, l14) x3 i fun w => if w < 0 then mx_cD35 s i k n w (x4 + r) (x5 + 1) else mx_cD35 s i k n w (x4 + r + 1) (x5 + 1)
      else if (-1 : Int32) < 0 then mx_cD35 s i k n (-1) (x4 + r) (x5 + 1) else mx_cD35 s i k n (-1) (x4 + r + 1) (x5 + 1)
theorem mx_pa {post : Int32 → Prop} {p i : Int32} {k : Int32 → Bool} {ls : mx_LS} {c N O W F top : Int32} {a1 a2 a3 a4 : Nat → Int32} {z : mx_ZS} (R : mx_RR a4 ls z) (h : mx_cPA (N, O, W, F, ls) p i k = true) (hp : ∀ r, k r = true → post r) : wpX_pairsAround post (c, N, O, W, F, top, a1, a2, a3, a4, z) p i := by
  obtain ⟨l5, l6, l7, l8, l9, l10, l11, l12, l13, l14⟩ := ls
  obtain ⟨a5, a6, a7, a8, a9, a10, a11, a12, a13, a14⟩ := z
  obtain ⟨R5, R6, R7, R8, R9, R10, R11, R12, R13, R14⟩ := R
  unfold mx_cPA at h
  dsimp only at h
  obtain ⟨u1, h⟩ := mx_rd_eq R11 h
  obtain ⟨u2, h⟩ := mx_rd_eq R10 h
  refine ⟨u1, u2, mx_if h (fun _ h => ?_) (fun _ h => ⟨u1, hp _ h⟩)⟩
  obtain ⟨u3, h⟩ := mx_rd_eq R12 h
  exact ⟨u3, u2, mx_if h (fun _ h => ⟨u2, hp _ h⟩) (fun _ h => ⟨u3, hp _ h⟩)⟩
theorem mx_in {post : Int32 → Prop} {p i : Int32} {k : Int32 → Bool} {ls : mx_LS} {c N O W F top : Int32} {a1 a2 a3 a4 : Nat → Int32} {z : mx_ZS} (R : mx_RR a4 ls z) (h : mx_cIn (N, O, W, F, ls) p i k = true) (hp : ∀ r, k r = true → post r) : wpX_within post (c, N, O, W, F, top, a1, a2, a3, a4, z) p i := by
  obtain ⟨l5, l6, l7, l8, l9, l10, l11, l12, l13, l14⟩ := ls
  obtain ⟨a5, a6, a7, a8, a9, a10, a11, a12, a13, a14⟩ := z
  obtain ⟨R5, R6, R7, R8, R9, R10, R11, R12, R13, R14⟩ := R
  unfold mx_cIn at h
  dsimp only at h
  obtain ⟨u1, h⟩ := mx_rd_eq R11 h
  refine ⟨u1, mx_if h (fun _ h => hp _ h) (fun _ h => ?_)⟩
  obtain ⟨u3, h⟩ := mx_rd_eq R12 h
  exact ⟨u3, mx_if h (fun _ h => hp _ h) (fun _ h => hp _ h)⟩
theorem mx_pw30 {post : Int32 → Prop} {x2 x4 : Int32} {k : Int32 → Bool} {c N O W F top : Int32} {a1 a2 a3 a4 a5 a6 a7 a8 a9 a10 a11 a12 a13 a14 : Nat → Int32} {l5 l6 l7 l8 : List Int32} {l9 : List mx_V} {l10 l11 l12 l13 l14 : List Int32} (R : mx_RR a4 (l5, l6, l7, l8, l9, l10, l11, l12, l13, l14) (a5, a6, a7, a8, a9, a10, a11, a12, a13, a14)) (h : mx_cPW30 (N, O, W, F, l5, l6, l7, l8, l9, l10, l11, l12, l13, l14) x2 x4 k = true) (hp : ∀ r, k r = true → post r) : wX_partWith_30 post x2 x4 c N O W F top a1 a2 a3 a4 a5 a6 a7 a8 a9 a10 a11 a12 a13 a14 := by
  unfold mx_cPW30 at h
  refine mx_if h (fun _ h => hp _ h) (fun _ h => mx_in R h (fun r h => ?_))
  exact mx_if h (fun _ h => hp _ h) (fun _ h => hp _ h)
theorem mx_pw {post : Int32 → Prop} {p i : Int32} {k : Int32 → Bool} {ls : mx_LS} {c N O W F top : Int32} {a1 a2 a3 a4 : Nat → Int32} {z : mx_ZS} (R : mx_RR a4 ls z) (h : mx_cPW (N, O, W, F, ls) p i k = true) (hp : ∀ r, k r = true → post r) : wpX_partWith post (c, N, O, W, F, top, a1, a2, a3, a4, z) p i := by
  obtain ⟨l5, l6, l7, l8, l9, l10, l11, l12, l13, l14⟩ := ls
  obtain ⟨a5, a6, a7, a8, a9, a10, a11, a12, a13, a14⟩ := z
  have R' := R
  obtain ⟨R5, R6, R7, R8, R9, R10, R11, R12, R13, R14⟩ := R'
  unfold mx_cPW at h
  dsimp only at h
  obtain ⟨u1, h⟩ := mx_rd_eq R6 h
  obtain ⟨u2, h⟩ := mx_rd_eq R7 h
  refine ⟨u1, nm_e ⟨u2, nm_e (mx_if h (fun _ h => mx_pw30 R h hp) (fun _ h => mx_in R h (fun r h => ?_)))⟩⟩
  exact mx_if h (fun _ h => mx_pw30 R h hp) (fun _ h => hp _ h)
theorem mx_d35 {post : Int32 → St2 → Prop} {i : Int32} {k : Int32 → Bool} {c N O W F top : Int32} {a1 a2 a3 a4 a5 a6 a7 a8 a9 a10 a11 a12 a13 a14 : Nat → Int32} {l5 l6 l7 l8 : List Int32} {l9 : List mx_V} {l10 l11 l12 l13 l14 : List Int32} (R : mx_RR a4 (l5, l6, l7, l8, l9, l10, l11, l12, l13, l14) (a5, a6, a7, a8, a9, a10, a11, a12, a13, a14)) (hp : ∀ r, k r = true → post r (c, N, O, W, F, top, a1, a2, a3, a4, a5, a6, a7, a8, a9, a10, a11, a12, a13, a14)) :
    ∀ (n : Nat) (x3 x4 x5 : Int32), mx_cD35 (N, O, W, F, l5, l6, l7, l8, l9, l10, l11, l12, l13, l14) i k n x3 x4 x5 = true → wX_depth_35 post i c N O W F top a1 a2 a3 a4 a5 a6 a7 a8 a9 a10 a11 a12 a13 a14 n x3 x4 x5 := by
  have R' := R
  obtain ⟨R5, R6, R7, R8, R9, R10, R11, R12, R13, R14⟩ := R'
  intro n
  induction n with
  | zero =>
    intro x3 x4 x5 h
    unfold mx_cD35 at h
    exact absurd h (by decide)
  | succ n ih =>
    intro x3 x4 x5 h
    unfold mx_cD35 at h
    dsimp only at h
    refine mx_if h (fun _ h => hp _ h) (fun _ h => mx_if h (fun _ h => hp _ h) (fun _ h => mx_pa R h (fun r h => nm_e ?_)))
    obtain ⟨u1, h⟩ := mx_rd_eq R10 h
    refine ⟨u1, mx_if h (fun _ h => mx_pw R h (fun w h => ?_)) (fun _ h => ?_)⟩
    · exact mx_if h (fun _ h => nm_e (ih _ _ _ h)) (fun _ h => nm_e (nm_e (ih _ _ _ h)))
    · exact mx_if h (fun _ h => nm_e (ih _ _ _ h)) (fun _ h => nm_e (nm_e (ih _ _ _ h)))
def mx_qDep (g : mx_G) (i e : Int32) : Bool := mx_cRead g (decide (-4 = e)) fun tp s => if i < 0 then decide (-4 = e) else if i < nI g.2.2.2.length then mx_cD35 s i (fun x => decide (x = e)) 16 tp 0 0 else decide (-4 = e)
theorem mx_depth {post : Int32 → St2 → Prop} {K1 K2 K3 tx : List Int32} {u : St2} {i : Int32} (e : Int32) (U : mx_U K1 K2 K3 tx u) (h : mx_qDep (mx_g K1 K2 K3 tx) i e = true)
    (hp : ∀ u, mx_U K1 K2 K3 tx u → post e u) : wpX_depth post u i := by
  obtain ⟨c, N, O, W, F, top, a1, a2, a3, a4, a5, a6, a7, a8, a9, a10, a11, a12, a13, a14⟩ := u
  unfold wpX_depth
  refine mx_q U h (fun hk u U => ?_) (fun c N O W F top a1 a2 a3 a4 ls z _ R U hk => ?_)
  · obtain ⟨c, N, O, W, F, top, a1, a2, a3, a4, a5, a6, a7, a8, a9, a10, a11, a12, a13, a14⟩ := u
    have he := of_decide_eq_true hk
    subst he
    exact br_t rfl (hp _ U)
  · obtain ⟨l5, l6, l7, l8, l9, l10, l11, l12, l13, l14⟩ := ls
    obtain ⟨a5, a6, a7, a8, a9, a10, a11, a12, a13, a14⟩ := z
    rw [← (mx_U_g U).2] at hk
    refine br_f (by decide) (mx_if hk (fun _ hk => ?_) (fun _ hk => mx_if hk (fun _ hk => ?_) (fun _ hk => ?_)))
    · have he := of_decide_eq_true hk
      subst he
      exact hp _ U
    · refine ⟨16, mx_d35 R (fun r hk => ?_) 16 _ _ _ hk⟩
      have he := of_decide_eq_true hk
      subst he
      exact hp _ U
    · have he := of_decide_eq_true hk
      subst he
      exact hp _ U
end
section
def mx_cBare (g : mx_G) (s : mx_PS) (p : Int32) (k : Int32 → Bool) : Bool := match s with
  | (N, O, W, F, l5, l6, l7, l8, l9, l10, l11, l12, l13, l14) => mx_rd l6 p fun x => if 0 ≤ x then mx_rd l5 p fun y => mx_cLev g y k else k 5
def mx_cSA (g : mx_G) (s : mx_PS) (p q : Int32) (k : Int32 → Bool) : Bool := match s with
  | (N, O, W, F, l5, l6, l7, l8, l9, l10, l11, l12, l13, l14) => mx_rd l10 p fun x => if x = 1 then mx_cBare g (N, O, W, F, l5, l6, l7, l8, l9, l10, l11, l12, l13, l14) p fun r => if r < q then k 0 else k 1 else k x
def mx_cS107 (g : mx_G) (s : mx_PS) (x2 x3 : Int32) (j : Int32 → Int32 → Bool) : Bool := match s with
  | (N, O, W, F, l5, l6, l7, l8, l9, l10, l11, l12, l13, l14) => mx_rd l7 x3 fun b => if b < 0 then j x2 (x3 + 1) else mx_rd l5 x3 fun y => mx_cNR g y fun r => mx_cSA g (N, O, W, F, l5, l6, l7, l8, l9, l10, l11, l12, l13, l14) b r fun q => j (x2 + q) (x3 + 1)
def mx_cS90 (g : mx_G) (s : mx_PS) (x2 x3 e : Int32) (j : Int32 → Int32 → Bool) : Bool := match s with
  | (N, O, W, F, l5, l6, l7, l8, l9, l10, l11, l12, l13, l14) => mx_rd l6 x3 fun a => mx_cSA g (N, O, W, F, l5, l6, l7, l8, l9, l10, l11, l12, l13, l14) a e fun q => mx_cS107 g (N, O, W, F, l5, l6, l7, l8, l9, l10, l11, l12, l13, l14) (x2 + q) x3 j
def mx_cS24 (g : mx_G) (s : mx_PS) (k : Int32 → Bool) : Nat → Int32 → Int32 → Bool
  | 0 => fun _ _ => false
  | n + 1 => fun x2 x3 => match s with
    | (N, O, W, F, l5, l6, l7, l8, l9, l10, l11, l12, l13, l14) => if N ≤ x3 then k x2 else mx_rd l6 x3 fun a => if a < 0 then mx_cS107 g (N, O, W, F, l5, l6, l7, l8, l9, l10, l11, l12, l13, l14) x2 x3 (mx_cS24 g s k n) else mx_rd l5 x3 fun y => mx_cKind g y fun r =>
      if r < 3 then mx_cNL g y fun e => mx_cS90 g (N, O, W, F, l5, l6, l7, l8, l9, l10, l11, l12, l13, l14) x2 x3 e (mx_cS24 g s k n) else mx_cLev g y fun e => mx_cS90 g (N, O, W, F, l5, l6, l7, l8, l9, l10, l11, l12, l13, l14) x2 x3 e (mx_cS24 g s k n)
theorem mx_bare {post : Int32 → Prop} {g : mx_G} {p : Int32} {k : Int32 → Bool} {ls : mx_LS} {c N O W F top : Int32} {a1 a2 a3 a4 : Nat → Int32} {z : mx_ZS} (hg : mx_RG g a1 a2 a3 a4) (R : mx_RR a4 ls z) (h : mx_cBare g (N, O, W, F, ls) p k = true) (hp : ∀ r, k r = true → post r) : wpX_bare post (c, N, O, W, F, top, a1, a2, a3, a4, z) p := by
  obtain ⟨l5, l6, l7, l8, l9, l10, l11, l12, l13, l14⟩ := ls
  obtain ⟨a5, a6, a7, a8, a9, a10, a11, a12, a13, a14⟩ := z
  obtain ⟨R5, R6, R7, R8, R9, R10, R11, R12, R13, R14⟩ := R
  unfold mx_cBare at h
  dsimp only at h
  obtain ⟨u1, h⟩ := mx_rd_eq R6 h
  refine ⟨u1, mx_if h (fun _ h => ?_) (fun _ h => hp _ h)⟩
  obtain ⟨u2, h⟩ := mx_rd_eq R5 h
  exact ⟨u2, mx_lev hg h hp⟩
theorem mx_sa {post : Int32 → Prop} {g : mx_G} {p q : Int32} {k : Int32 → Bool} {ls : mx_LS} {c N O W F top : Int32} {a1 a2 a3 a4 : Nat → Int32} {z : mx_ZS} (hg : mx_RG g a1 a2 a3 a4) (R : mx_RR a4 ls z) (h : mx_cSA g (N, O, W, F, ls) p q k = true) (hp : ∀ r, k r = true → post r) : wpX_spareAt post (c, N, O, W, F, top, a1, a2, a3, a4, z) p q := by
  obtain ⟨l5, l6, l7, l8, l9, l10, l11, l12, l13, l14⟩ := ls
  obtain ⟨a5, a6, a7, a8, a9, a10, a11, a12, a13, a14⟩ := z
  have R' := R
  obtain ⟨R5, R6, R7, R8, R9, R10, R11, R12, R13, R14⟩ := R'
  unfold mx_cSA at h
  dsimp only at h
  obtain ⟨u1, h⟩ := mx_rd_eq R10 h
  refine ⟨u1, mx_if h (fun _ h => mx_bare hg R h (fun r h => ?_)) (fun _ h => ⟨u1, hp _ h⟩)⟩
  exact mx_if h (fun _ h => hp _ h) (fun _ h => hp _ h)
theorem mx_s107 {post : Int32 → St2 → Prop} {g : mx_G} {x2 x3 : Int32} {j : Int32 → Int32 → Bool} {J : Int32 → Int32 → Prop} {c N O W F top : Int32} {a1 a2 a3 a4 a5 a6 a7 a8 a9 a10 a11 a12 a13 a14 : Nat → Int32} {l5 l6 l7 l8 : List Int32} {l9 : List mx_V} {l10 l11 l12 l13 l14 : List Int32} (hg : mx_RG g a1 a2 a3 a4) (R : mx_RR a4 (l5, l6, l7, l8, l9, l10, l11, l12, l13, l14) (a5, a6, a7, a8, a9, a10, a11, a12, a13, a14)) (h : mx_cS107 g (N, O, W, F, l5, l6, l7, l8, l9, l10, l11, l12, l13, l14) x2 x3 j = true) (hp : ∀ x y, j x y = true → J x y) : wX_spare_107 post J x2 x3 c N O W F top a1 a2 a3 a4 a5 a6 a7 a8 a9 a10 a11 a12 a13 a14 := by
  have R' := R
  obtain ⟨R5, R6, R7, R8, R9, R10, R11, R12, R13, R14⟩ := R'
  unfold mx_cS107 at h
  dsimp only at h
  obtain ⟨u1, h⟩ := mx_rd_eq R7 h
  refine ⟨u1, mx_if h (fun _ h => nm_e (hp _ _ h)) (fun _ h => ?_)⟩
  obtain ⟨u2, h⟩ := mx_rd_eq R5 h
  refine ⟨u2, mx_nr hg h (fun r h => ⟨u1, mx_sa hg R h (fun q h => nm_e (nm_e (hp _ _ h)))⟩)⟩
theorem mx_s90 {post : Int32 → St2 → Prop} {g : mx_G} {x2 x3 e : Int32} {j : Int32 → Int32 → Bool} {J : Int32 → Int32 → Prop} {c N O W F top : Int32} {a1 a2 a3 a4 a5 a6 a7 a8 a9 a10 a11 a12 a13 a14 : Nat → Int32} {l5 l6 l7 l8 : List Int32} {l9 : List mx_V} {l10 l11 l12 l13 l14 : List Int32} (hg : mx_RG g a1 a2 a3 a4) (R : mx_RR a4 (l5, l6, l7, l8, l9, l10, l11, l12, l13, l14) (a5, a6, a7, a8, a9, a10, a11, a12, a13, a14)) (h : mx_cS90 g (N, O, W, F, l5, l6, l7, l8, l9, l10, l11, l12, l13, l14) x2 x3 e j = true) (hp : ∀ x y, j x y = true → J x y) : wX_spare_90 post J x2 x3 e c N O W F top a1 a2 a3 a4 a5 a6 a7 a8 a9 a10 a11 a12 a13 a14 := by
  have R' := R
  obtain ⟨R5, R6, R7, R8, R9, R10, R11, R12, R13, R14⟩ := R'
  unfold mx_cS90 at h
  dsimp only at h
  obtain ⟨u1, h⟩ := mx_rd_eq R6 h
  exact ⟨u1, mx_sa hg R h (fun q h => nm_e (mx_s107 hg R h hp))⟩
theorem mx_s24 {post : Int32 → St2 → Prop} {g : mx_G} {k : Int32 → Bool} {c N O W F top : Int32} {a1 a2 a3 a4 a5 a6 a7 a8 a9 a10 a11 a12 a13 a14 : Nat → Int32} {l5 l6 l7 l8 : List Int32} {l9 : List mx_V} {l10 l11 l12 l13 l14 : List Int32} (hg : mx_RG g a1 a2 a3 a4) (R : mx_RR a4 (l5, l6, l7, l8, l9, l10, l11, l12, l13, l14) (a5, a6, a7, a8, a9, a10, a11, a12, a13, a14)) (hp : ∀ r, k r = true → post r (c, N, O, W, F, top, a1, a2, a3, a4, a5, a6, a7, a8, a9, a10, a11, a12, a13, a14)) :
    ∀ (n : Nat) (x2 x3 : Int32), mx_cS24 g (N, O, W, F, l5, l6, l7, l8, l9, l10, l11, l12, l13, l14) k n x2 x3 = true → wX_spare_24 post c N O W F top a1 a2 a3 a4 a5 a6 a7 a8 a9 a10 a11 a12 a13 a14 n x2 x3 := by
  have R' := R
  obtain ⟨R5, R6, R7, R8, R9, R10, R11, R12, R13, R14⟩ := R'
  intro n
  induction n with
  | zero =>
    intro x2 x3 h
    unfold mx_cS24 at h
    exact absurd h (by decide)
  | succ n ih =>
    intro x2 x3 h
    unfold mx_cS24 at h
    dsimp only at h
    refine mx_if h (fun _ h => hp _ h) (fun _ h => ?_)
    obtain ⟨u1, h⟩ := mx_rd_eq R6 h
    refine ⟨u1, mx_if h (fun _ h => mx_s107 hg R h ih) (fun _ h => ?_)⟩
    obtain ⟨u2, h⟩ := mx_rd_eq R5 h
    refine ⟨u2, mx_kind hg h (fun r h => mx_if h (fun _ h => ?_) (fun _ h => ?_))⟩
    · exact br_t rfl ⟨u2, mx_nl hg h (fun e h => mx_s90 hg R h ih)⟩
    · exact br_f (by decide) ⟨u2, mx_lev hg h (fun e h => mx_s90 hg R h ih)⟩
def mx_qSp (g : mx_G) (e : Int32) : Bool := mx_cRead g (decide (-4 = e)) fun tp s => mx_cSA g s tp 0 fun r => mx_cS24 g s (fun x => decide (x = e)) 17 r 0
theorem mx_spare {post : Int32 → St2 → Prop} {K1 K2 K3 tx : List Int32} {u : St2} (e : Int32) (U : mx_U K1 K2 K3 tx u) (h : mx_qSp (mx_g K1 K2 K3 tx) e = true)
    (hp : ∀ u, mx_U K1 K2 K3 tx u → post e u) : wpX_spare post u := by
  obtain ⟨c, N, O, W, F, top, a1, a2, a3, a4, a5, a6, a7, a8, a9, a10, a11, a12, a13, a14⟩ := u
  unfold wpX_spare
  refine mx_q U h (fun hk u U => ?_) (fun c N O W F top a1 a2 a3 a4 ls z hg R U hk => ?_)
  · obtain ⟨c, N, O, W, F, top, a1, a2, a3, a4, a5, a6, a7, a8, a9, a10, a11, a12, a13, a14⟩ := u
    have he := of_decide_eq_true hk
    subst he
    exact br_t rfl (hp _ U)
  · obtain ⟨l5, l6, l7, l8, l9, l10, l11, l12, l13, l14⟩ := ls
    obtain ⟨a5, a6, a7, a8, a9, a10, a11, a12, a13, a14⟩ := z
    refine br_f (by decide) (mx_sa hg R hk (fun r hk => ⟨17, mx_s24 hg R (fun r hk => ?_) 17 _ _ hk⟩))
    have he := of_decide_eq_true hk
    subst he
    exact hp _ U
end
section
theorem mx_RA_push {n : Nat} {l : List Int32} {a : Nat → Int32} {x : Int32} (R : mx_RA n l a) (hl : l.length < n) : mx_RA n (l ++ [x]) (upd a l.length x) := by
  refine ⟨by rw [List.length_append]; exact hl, fun j h => ?_⟩
  by_cases e : j = l.length
  · subst e
    rw [pk_us, List.getElem_append_right (Nat.le_refl _)]
    simp
  · rw [pk_un e]
    rw [List.length_append] at h
    have h' : j < l.length := by
      have h2 : j < l.length + 1 := h
      omega
    rw [List.getElem_append_left h']
    exact R.2 j h'
theorem mx_RA_pop {n : Nat} {l : List Int32} {a : Nat → Int32} {x : Int32} (R : mx_RA n (l ++ [x]) a) : mx_RA n l a ∧ a l.length = x := by
  have hl : (l ++ [x]).length = l.length + 1 := by rw [List.length_append]; rfl
  refine ⟨⟨?_, fun j h => ?_⟩, ?_⟩
  · have := R.1
    omega
  · have h1 := R.2 j (by omega)
    rw [List.getElem_append_left h] at h1
    exact h1
  · have h1 := R.2 l.length (by omega)
    rw [List.getElem_append_right (Nat.le_refl _)] at h1
    simpa using h1
theorem mx_RA_set {n i : Nat} {l : List Int32} {a : Nat → Int32} {x : Int32} (R : mx_RA n l a) : mx_RA n (l.set i x) (upd a i x) := by
  refine ⟨by rw [List.length_set]; exact R.1, fun j h => ?_⟩
  rw [List.length_set] at h
  by_cases e : j = i
  · subst e
    rw [pk_us, List.getElem_set_self]
  · rw [pk_un e, List.getElem_set_ne (fun z => e z.symm)]
    exact R.2 j h
theorem mx_len {l : List Int32} {x : Int32} : (l ++ [x]).length = l.length + 1 := by
  rw [List.length_append]
  rfl
theorem mx_token {post : Int32 → St2 → Prop} {K1 K2 K3 tx : List Int32} {u : St2} {t : Int32} (U : mx_U K1 K2 K3 tx u) (h0 : ¬ t < 0) (h1 : t ≤ 19) (hl : tx.length < 15)
    (hp : ∀ u, mx_U K1 K2 K3 (tx ++ [t]) u → post (nI (tx.length + 1)) u) : wpX_token post u t := by
  obtain ⟨c, N, O, W, F, top, a1, a2, a3, a4, a5, a6, a7, a8, a9, a10, a11, a12, a13, a14⟩ := u
  obtain ⟨e1, e2, e3, e4, e5, e6⟩ := U
  subst e1
  refine br_f h0 (br_t h1 (pk_eq tx.length 15 (fun z => absurd z (by omega)) (fun _ => ⟨pk_in tx.length 16 (by omega), nm_e (nm_r (nI_1 _) (hp _ ⟨?_, ?_, e3, e4, e5, ?_⟩))⟩)))
  · rw [mx_len]
  · rw [mx_len]
    omega
  · rw [nI_clamp (by omega)]
    exact mx_RA_push e6 (by omega)
theorem mx_tokenF {post : Int32 → St2 → Prop} {K1 K2 K3 tx : List Int32} {u : St2} {t : Int32} (U : mx_U K1 K2 K3 tx u) (h0 : ¬ t < 0) (h1 : t ≤ 19) (hl : tx.length = 15) (hp : post (-2) u) : wpX_token post u t := by
  obtain ⟨c, N, O, W, F, top, a1, a2, a3, a4, a5, a6, a7, a8, a9, a10, a11, a12, a13, a14⟩ := u
  obtain ⟨e1, e2, e3, e4, e5, e6⟩ := U
  refine br_f h0 (br_t h1 (br_t ?_ hp))
  rw [e1, hl]
  rfl
theorem mx_tokenB {post : Int32 → St2 → Prop} {u : St2} (hp : post (-1) u) : wpX_token post u 20 := by
  obtain ⟨c, N, O, W, F, top, a1, a2, a3, a4, a5, a6, a7, a8, a9, a10, a11, a12, a13, a14⟩ := u
  exact br_f (by decide) (br_f (by decide) hp)
theorem mx_untok {post : Int32 → St2 → Prop} {K1 K2 K3 tx : List Int32} {u : St2} {t : Int32} (U : mx_U K1 K2 K3 (tx ++ [t]) u) (hp : ∀ u, mx_U K1 K2 K3 tx u → post t u) : wpX_untoken post u := by
  obtain ⟨c, N, O, W, F, top, a1, a2, a3, a4, a5, a6, a7, a8, a9, a10, a11, a12, a13, a14⟩ := u
  obtain ⟨e1, e2, e3, e4, e5, e6⟩ := U
  rw [mx_len] at e1 e2
  subst e1
  obtain ⟨f1, f2⟩ := mx_RA_pop e6
  refine br_f (nI_ne0 (by omega) (by omega)) (nm_r (nI_pred _) ⟨pk_in tx.length 16 (by omega), ?_⟩)
  rw [nI_clamp (by omega), f2]
  exact hp _ ⟨rfl, by omega, e3, e4, e5, f1⟩
theorem mx_clear {post : St2 → Prop} {K1 K2 K3 tx : List Int32} {u : St2} (U : mx_U K1 K2 K3 tx u) (hp : ∀ u, mx_U K1 K2 K3 [] u → post u) : wpX_clear post u := by
  obtain ⟨c, N, O, W, F, top, a1, a2, a3, a4, a5, a6, a7, a8, a9, a10, a11, a12, a13, a14⟩ := u
  obtain ⟨e1, e2, e3, e4, e5, e6⟩ := U
  exact hp _ ⟨rfl, Nat.zero_le _, e3, e4, e5, mx_nil⟩
theorem mx_size {post : Int32 → Prop} {K1 K2 K3 tx : List Int32} {u : St2} (U : mx_U K1 K2 K3 tx u) (hp : post (nI tx.length)) : wpX_size post u := by
  obtain ⟨c, N, O, W, F, top, a1, a2, a3, a4, a5, a6, a7, a8, a9, a10, a11, a12, a13, a14⟩ := u
  obtain ⟨e1, e2, e3, e4, e5, e6⟩ := U
  subst e1
  exact hp
theorem mx_level {post : Int32 → St2 → Prop} {K1 K2 K3 tx : List Int32} {u : St2} {i : Nat} {e : Int32} (U : mx_U K1 K2 K3 tx u) (hi : i < 5) (hK : i < K1.length) (h0 : ¬ e < 0) (h1 : e ≤ 4)
    (hp : ∀ u, mx_U (K1.set i e) K2 K3 tx u → post K1[i] u) : wpX_level post u (nI i) e := by
  obtain ⟨c, N, O, W, F, top, a1, a2, a3, a4, a5, a6, a7, a8, a9, a10, a11, a12, a13, a14⟩ := u
  obtain ⟨e1, e2, e3, e4, e5, e6⟩ := U
  refine br_f (nI_pos (by omega)) (pk_le 5 i (fun z => absurd z (by omega)) (fun _ => br_f h0 (br_t h1 ⟨pk_in i 5 hi, nm_r ?_ ⟨pk_in i 5 hi, nm_e (hp _ ⟨e1, e2, ?_, e4, e5, e6⟩)⟩⟩)))
  · rw [nI_clamp (by omega)]
    exact e3.2 i hK
  · rw [nI_clamp (by omega)]
    exact mx_RA_set e3
theorem mx_operator {post : Int32 → St2 → Prop} {K1 K2 K3 tx : List Int32} {u : St2} {i : Nat} {d e : Int32} (U : mx_U K1 K2 K3 tx u) (hi : i < 8) (hK : i < K2.length) (hd : ¬ d < 0) (hd' : ¬ 5 ≤ d) (h0 : ¬ e < 0) (h1 : e ≤ 3)
    (hp : ∀ u, mx_U K1 (K2.set i d) (K3.set i e) tx u → post K2[i] u) : wpX_operator post u (nI i) d e := by
  obtain ⟨c, N, O, W, F, top, a1, a2, a3, a4, a5, a6, a7, a8, a9, a10, a11, a12, a13, a14⟩ := u
  obtain ⟨e1, e2, e3, e4, e5, e6⟩ := U
  refine br_f (nI_pos (by omega)) (pk_lt 7 i (fun z => absurd z (by omega)) (fun _ => br_f hd (br_f hd' (br_f h0 (br_t h1 ⟨pk_in i 8 hi, nm_r ?_ ⟨pk_in i 8 hi, nm_e ⟨pk_in i 8 hi, nm_e (hp _ ⟨e1, e2, e3, ?_, ?_, e6⟩)⟩⟩⟩)))))
  · rw [nI_clamp (by omega)]
    exact e4.2 i hK
  · rw [nI_clamp (by omega)]
    exact mx_RA_set e4
  · rw [nI_clamp (by omega)]
    exact mx_RA_set e5
/-- every token behind the text: none reads -/
theorem mx_e4 {post : Int32 → St2 → Prop} {K1 K2 K3 tx : List Int32} (hl : tx.length < 15) (h : ∀ t, t < 20 → mx_cRead (mx_g K1 K2 K3 (tx ++ [nI t])) true (fun _ _ => false) = true)
    (hp : ∀ u, mx_U K1 K2 K3 tx u → post 0 u) : ∀ (m t : Nat), t + m = 20 → ∀ (c N O W F top : Int32) (a1 a2 a3 a4 a5 a6 a7 a8 a9 a10 a11 a12 a13 a14 : Nat → Int32), mx_U K1 K2 K3 tx (c, N, O, W, F, top, a1, a2, a3, a4, a5, a6, a7, a8, a9, a10, a11, a12, a13, a14) → wX_endings_4 post (m + 1) 0 (nI t) c N O W F top a1 a2 a3 a4 a5 a6 a7 a8 a9 a10 a11 a12 a13 a14 := by
  intro m
  induction m with
  | zero =>
    intro t ht c N O W F top a1 a2 a3 a4 a5 a6 a7 a8 a9 a10 a11 a12 a13 a14 U
    exact pk_lt 19 t (fun _ => hp _ U) (fun z => absurd z (by omega))
  | succ m ih =>
    intro t ht c N O W F top a1 a2 a3 a4 a5 a6 a7 a8 a9 a10 a11 a12 a13 a14 U
    obtain ⟨e1, e2, e3, e4, e5, e6⟩ := U
    subst e1
    refine pk_lt 19 t (fun z => absurd z (by omega)) (fun _ => ⟨pk_in tx.length 16 (by omega), nm_e (nm_r (nI_1 _) ?_)⟩)
    have V : mx_U K1 K2 K3 (tx ++ [nI t]) (nI (tx.length + 1), N, O, W, F, top, a1, a2, a3, upd a4 (nI tx.length).toNatClampNeg (nI t), a5, a6, a7, a8, a9, a10, a11, a12, a13, a14) := by
      refine ⟨?_, ?_, e3, e4, e5, ?_⟩
      · rw [mx_len]
      · rw [mx_len]
        omega
      · rw [nI_clamp (by omega)]
        exact mx_RA_push e6 (by omega)
    refine mx_q V (h t (by omega)) (fun _ u U => ?_) (fun _ _ _ _ _ _ _ _ _ _ _ _ _ _ _ hk => absurd hk (by decide))
    obtain ⟨c, N, O, W, F, top, a1, a2, a3, a4, a5, a6, a7, a8, a9, a10, a11, a12, a13, a14⟩ := u
    obtain ⟨e1, e2, e3, e4, e5, e6⟩ := U
    rw [mx_len] at e1
    subst e1
    refine nm_r (nI_pred _) (br_t rfl (nm_r (nI_1 _) ?_))
    exact ih (t + 1) (by omega) _ _ _ _ _ _ _ _ _ _ _ _ _ _ _ _ _ _ _ _ ⟨rfl, by omega, e3, e4, e5, (mx_RA_pop e6).1⟩
theorem mx_endings {post : Int32 → St2 → Prop} {K1 K2 K3 tx : List Int32} {u : St2} (U : mx_U K1 K2 K3 tx u) (hl : tx.length < 15) (h : ∀ t, t < 20 → mx_cRead (mx_g K1 K2 K3 (tx ++ [nI t])) true (fun _ _ => false) = true)
    (hp : ∀ u, mx_U K1 K2 K3 tx u → post 0 u) : wpX_endings post u := by
  obtain ⟨c, N, O, W, F, top, a1, a2, a3, a4, a5, a6, a7, a8, a9, a10, a11, a12, a13, a14⟩ := u
  exact ⟨21, mx_e4 hl h hp 20 0 rfl _ _ _ _ _ _ _ _ _ _ _ _ _ _ _ _ _ _ _ _ U⟩
end
section
def mx_K2 : List Int32 := [0, 0, 1, 1, 2, 2, 4, 0]
def mx_K3 : List Int32 := [0, 1, 2, 3, 0, 1, 2, 1]
def mx_K1 (s : Nat) : List Int32 := [nI s, 0, 0, 0, 3]
def mx_G1 (s : Nat) (T : List Int32) : mx_G := (mx_K1 s, mx_K2, mx_K3, T)
/-- the shape of n digits with a minus between -/
def mx_sh : Nat → List Int32
  | 0 => []
  | n + 1 => if n = 0 then [0] else mx_sh n ++ [17, 0]
/-- does it read -/
def mx_rb (s n : Nat) : Bool := decide (s < 2) || decide (n < 3)
/-- the value, as a linear form -/
def mx_vL : Nat → mx_V
  | 0 => []
  | n + 1 => mx_vL n ++ [(if n = 0 then 1 else -1, 2 * n)]
def mx_vR : Nat → mx_V
  | 0 => []
  | n + 1 => mx_vR n ++ [(if n % 2 = 0 then 1 else -1, 2 * n)]
def mx_vd (s n : Nat) : mx_V := if mx_rb s n then if s = 1 then mx_vR n else mx_vL n else []
def mx_rt (s n : Nat) : Int32 := if n = 1 then -4 else if mx_rb s n then if s = 1 then 1 else 2 * nI n - 3 else -4
def mx_st (s n : Nat) : Int32 := if mx_rb s n then if n = 1 then 5 else 0 else -4
def mx_sp (s n : Nat) : Int32 := if mx_rb s n then 0 else -4
def mx_dp (x4 x5 x14 : Int32) : Int32 := if x5 = 1 then 0 else if x4 = 1 then if x5 - 1 ≤ x14 then x5 - 1 else x14 + 1 else if x14 = 0 then x5 - 1 else x5 - x14
def mx_de (s n i : Nat) : Int32 := if n ≤ i then -4 else if mx_rb s n then mx_dp (nI s) (nI n) (nI i) else -4
set_option maxRecDepth 100000 in
theorem mx_k_reads : ∀ s, s < 3 → ∀ n, n < 6 → mx_cRead (mx_G1 s (mx_sh (n + 1))) (!(mx_rb s (n + 1))) (fun _ _ => mx_rb s (n + 1)) = true := by decide +kernel
set_option maxRecDepth 100000 in
theorem mx_k_value : ∀ s, s < 3 → ∀ n, n < 6 → mx_qVal (mx_G1 s (mx_sh (n + 1))) (mx_vd s (n + 1)) = true := by decide +kernel
set_option maxRecDepth 100000 in
theorem mx_k_root : ∀ s, s < 3 → ∀ n, n < 6 → mx_qRoot (mx_G1 s (mx_sh (n + 1))) (mx_rt s (n + 1)) = true := by decide +kernel
set_option maxRecDepth 100000 in
theorem mx_k_strength : ∀ s, s < 3 → ∀ n, n < 6 → mx_qStr (mx_G1 s (mx_sh (n + 1))) (mx_st s (n + 1)) = true := by decide +kernel
set_option maxRecDepth 100000 in
theorem mx_k_spare : ∀ s, s < 3 → ∀ n, n < 6 → mx_qSp (mx_G1 s (mx_sh (n + 1))) (mx_sp s (n + 1)) = true := by decide +kernel
set_option maxRecDepth 100000 in
theorem mx_k_depth : ∀ s, s < 3 → ∀ n, n < 6 → ∀ i, i < 6 → mx_qDep (mx_G1 s (mx_sh (n + 1))) (2 * nI i) (mx_de s (n + 1) i) = true := by decide +kernel
end
section
set_option maxRecDepth 100000 in
theorem mx_k_A0 : ∀ s, s < 3 → mx_cRead (mx_G1 s [16, 16, 16]) true (fun _ _ => false) = true := by decide +kernel
set_option maxRecDepth 100000 in
theorem mx_k_A : ∀ s, s < 3 → mx_cRead (mx_G1 s [16, 16, 16, 0]) false (fun _ _ => true) = true ∧ mx_qVal (mx_G1 s [16, 16, 16, 0]) [(8, 3)] = true ∧ mx_qStr (mx_G1 s [16, 16, 16, 0]) 4 = true ∧ mx_qRoot (mx_G1 s [16, 16, 16, 0]) 0 = true ∧ mx_qDep (mx_G1 s [16, 16, 16, 0]) 3 3 = true ∧ mx_qDep (mx_G1 s [16, 16, 16, 0]) 2 2 = true := by decide +kernel
set_option maxRecDepth 100000 in
theorem mx_k_E1 : ∀ s, s < 3 → ∀ t, t < 20 → mx_cRead (mx_G1 s [18, 18, 18, 0, mx_shp (nI t)]) true (fun _ _ => false) = true := by decide +kernel
set_option maxRecDepth 100000 in
theorem mx_k_B : ∀ s, s < 3 → mx_cRead (mx_G1 s [18, 18, 18, 0, 19]) true (fun _ _ => false) = true ∧ mx_cRead (mx_G1 s [18, 18, 18, 0, 19, 19]) true (fun _ _ => false) = true ∧ mx_cRead (mx_G1 s [18, 18, 18, 0, 19, 19, 19]) false (fun _ _ => true) = true := by decide +kernel
set_option maxRecDepth 100000 in
theorem mx_k_C : ∀ s, s < 3 → mx_qStr (mx_G1 s [18, 18, 18, 0, 19, 19, 19]) 5 = true ∧ mx_qSp (mx_G1 s [18, 18, 18, 0, 19, 19, 19]) 3 = true ∧ mx_qRoot (mx_G1 s [18, 18, 18, 0, 19, 19, 19]) (-4) = true ∧ mx_qDep (mx_G1 s [18, 18, 18, 0, 19, 19, 19]) 3 3 = true ∧ mx_qDep (mx_G1 s [18, 18, 18, 0, 19, 19, 19]) 1 1 = true := by decide +kernel
set_option maxRecDepth 100000 in
theorem mx_k_D : ∀ s, s < 3 → mx_qVal (mx_G1 s [18, 18, 18, 0, 19, 19, 19, 17, 0]) [(1, 3), (-1, 8)] = true ∧ mx_qRoot (mx_G1 s [18, 18, 18, 0, 19, 19, 19, 17, 0]) 7 = true ∧ mx_qSp (mx_G1 s [18, 18, 18, 0, 19, 19, 19, 17, 0]) 3 = true ∧ mx_qDep (mx_G1 s [18, 18, 18, 0, 19, 19, 19, 17, 0]) 3 4 = true := by decide +kernel
set_option maxRecDepth 100000 in
theorem mx_k_F : ∀ s, s < 3 → mx_cRead (mx_G1 s [18, 18, 18, 0, 19, 19, 19, 17, 0, 18, 18, 18, 18, 18, 18]) true (fun _ _ => false) = true := by decide +kernel
set_option maxRecDepth 100000 in
theorem mx_k_E2 : ∀ s, s < 3 → ∀ t, t < 20 → mx_cRead (mx_G1 s [18, 18, 18, 0, 19, 19, 19, 17, 0, 18, 18, 18, 18, 18, mx_shp (nI t)]) true (fun _ _ => false) = true := by decide +kernel
end
section
abbrev mx_Us (s : Nat) (tx : List Int32) (u : St2) : Prop := mx_U (mx_K1 s) mx_K2 mx_K3 tx u
theorem mx_gs {s : Nat} {tx T : List Int32} (h : tx.map mx_shp = T) : mx_g (mx_K1 s) mx_K2 mx_K3 tx = mx_G1 s T := by
  unfold mx_g mx_G1
  rw [h]
theorem mx_U_t {K1 K2 K3 tx : List Int32} {u : St2} {j : Nat} {x : Int32} (U : mx_U K1 K2 K3 tx u) (h : tx[j]? = some x) : mx_t u j = x := by
  obtain ⟨c, N, O, W, F, top, a1, a2, a3, a4, a5, a6, a7, a8, a9, a10, a11, a12, a13, a14⟩ := u
  obtain ⟨e1, e2, e3, e4, e5, e6⟩ := U
  obtain ⟨h1, h2⟩ := List.getElem?_eq_some_iff.mp h
  rw [← h2]
  exact e6.2 j h1
theorem mx_s16 : mx_shp 16 = 16 := by decide
theorem mx_s17 : mx_shp 17 = 17 := by decide
theorem mx_s18 : mx_shp 18 = 18 := by decide
theorem mx_s19 : mx_shp 19 = 19 := by decide
/-- a digit -/
def mx_dg (d : Int32) : Prop := ∃ e : Nat, e < 10 ∧ d = nI e
theorem mx_dg0 {d : Int32} (h : mx_dg d) : ¬ d < 0 := by
  obtain ⟨e, he, rfl⟩ := h
  exact nI_pos (by omega)
theorem mx_dg19 {d : Int32} (h : mx_dg d) : d ≤ 19 := by
  obtain ⟨e, he, rfl⟩ := h
  exact nI_le (b := 19) (by omega) (by decide)
theorem mx_dgS {d : Int32} (h : mx_dg d) : mx_shp d = 0 := by
  obtain ⟨e, he, rfl⟩ := h
  exact mx_shp_lo (nI_lt (b := 10) he (by decide))
def mx_tD (d l : Int32) (i : Nat) : List Int32 := [18, 18, 18, d, 19, 19, 19, 17, l] ++ List.replicate i 18
theorem mx_tD_s (d l : Int32) (i : Nat) : mx_tD d l i ++ [18] = mx_tD d l (i + 1) := by
  unfold mx_tD
  rw [List.append_assoc, List.replicate_succ']
theorem mx_tD_l (d l : Int32) (i : Nat) : (mx_tD d l i).length = 9 + i := by
  unfold mx_tD
  rw [List.length_append, List.length_replicate]
  rfl
theorem mx_w908 {post : Int32 → St0 → Prop} {mc ms kc ks : Nat} {s : Nat} {d l : Int32} (hs : s < 3) (hd : mx_dg d) (hl : mx_dg l) (hp : post 1 ()) :
    ∀ (m i : Nat), i + m = 8 → ∀ (c N O W F top : Int32) (a1 a2 a3 a4 a5 a6 a7 a8 a9 a10 a11 a12 a13 a14 : Nat → Int32), mx_Us s (mx_tD d l (min i 6)) (c, N, O, W, F, top, a1, a2, a3, a4, a5, a6, a7, a8, a9, a10, a11, a12, a13, a14) → wL_lawOf_908 post mc ms kc ks (m + 1) 1 (nI i) c N O W F top a1 a2 a3 a4 a5 a6 a7 a8 a9 a10 a11 a12 a13 a14 := by
  intro m
  induction m with
  | zero =>
    intro i hi c N O W F top a1 a2 a3 a4 a5 a6 a7 a8 a9 a10 a11 a12 a13 a14 U
    have hi' : i = 8 := by omega
    subst hi'
    refine pk_le 8 8 (fun _ => ?_) (fun z => absurd z (by omega))
    refine br_f (by decide) (mx_reads false U ?_ (fun u U => ?_))
    · rw [mx_gs (T := [18, 18, 18, 0, 19, 19, 19, 17, 0, 18, 18, 18, 18, 18, 18])]
      · exact mx_k_F s hs
      · show List.map mx_shp [18, 18, 18, d, 19, 19, 19, 17, l, 18, 18, 18, 18, 18, 18] = _
        simp only [List.map_cons, List.map_nil, mx_dgS hd, mx_dgS hl, mx_s17, mx_s18, mx_s19]
    obtain ⟨c, N, O, W, F, top, a1, a2, a3, a4, a5, a6, a7, a8, a9, a10, a11, a12, a13, a14⟩ := u
    refine br_t rfl (mx_size U (br_t rfl ?_))
    refine mx_untok (tx := mx_tD d l 5) (t := 18) U (fun u U => ?_)
    obtain ⟨c, N, O, W, F, top, a1, a2, a3, a4, a5, a6, a7, a8, a9, a10, a11, a12, a13, a14⟩ := u
    refine br_t rfl (mx_tokenB (br_t rfl ?_))
    refine mx_endings U (by rw [mx_tD_l]; omega) ?_ (fun u U => ?_)
    · intro t ht
      rw [mx_gs (T := [18, 18, 18, 0, 19, 19, 19, 17, 0, 18, 18, 18, 18, 18, mx_shp (nI t)])]
      · exact mx_k_E2 s hs t ht
      · show List.map mx_shp [18, 18, 18, d, 19, 19, 19, 17, l, 18, 18, 18, 18, 18, nI t] = _
        simp only [List.map_cons, List.map_nil, mx_dgS hd, mx_dgS hl, mx_s17, mx_s18, mx_s19]
    obtain ⟨c, N, O, W, F, top, a1, a2, a3, a4, a5, a6, a7, a8, a9, a10, a11, a12, a13, a14⟩ := u
    exact br_t rfl hp
  | succ m ih =>
    intro i hi c N O W F top a1 a2 a3 a4 a5 a6 a7 a8 a9 a10 a11 a12 a13 a14 U
    refine pk_le 8 i (fun z => absurd z (by omega)) (fun _ => br_f (by decide) ?_)
    by_cases h6 : i < 6
    · rw [show min i 6 = i by omega] at U
      refine mx_token U (by decide) (by decide) (by rw [mx_tD_l]; omega) (fun u U => ?_)
      obtain ⟨c, N, O, W, F, top, a1, a2, a3, a4, a5, a6, a7, a8, a9, a10, a11, a12, a13, a14⟩ := u
      refine pk_le 6 i (fun z => absurd z (by omega)) (fun _ => br_t ?_ (nm_r (nI_1 i) (ih (i + 1) (by omega) _ _ _ _ _ _ _ _ _ _ _ _ _ _ _ _ _ _ _ _ ?_)))
      · rw [mx_tD_l]
        show nI (9 + i + 1) = nI 10 + nI i
        rw [nI_add, show 9 + i + 1 = 10 + i by omega]
      · rw [mx_tD_s] at U
        rw [show min (i + 1) 6 = i + 1 by omega]
        exact U
    · rw [show min i 6 = 6 by omega] at U
      refine mx_tokenF U (by decide) (by decide) (by rw [mx_tD_l]) ?_
      refine pk_le 6 i (fun z => br_t rfl (nm_r (nI_1 i) (ih (i + 1) (by omega) _ _ _ _ _ _ _ _ _ _ _ _ _ _ _ _ _ _ _ _ ?_))) (fun z => absurd z (by omega))
      rw [show min (i + 1) 6 = 6 by omega]
      exact U
end
section
def mx_tC (d : Int32) (i : Nat) : List Int32 := [18, 18, 18, d] ++ List.replicate i 19
theorem mx_tC_s (d : Int32) (i : Nat) : mx_tC d i ++ [19] = mx_tC d (i + 1) := by
  unfold mx_tC
  rw [List.append_assoc, List.replicate_succ']
theorem mx_tC_l (d : Int32) (i : Nat) : (mx_tC d i).length = 4 + i := by
  unfold mx_tC
  rw [List.length_append, List.length_replicate]
  rfl
theorem mx_tC_g {d : Int32} (hd : mx_dg d) {s : Nat} : mx_g (mx_K1 s) mx_K2 mx_K3 (mx_tC d 3) = mx_G1 s [18, 18, 18, 0, 19, 19, 19] := by
  apply mx_gs
  show List.map mx_shp [18, 18, 18, d, 19, 19, 19] = _
  simp only [List.map_cons, List.map_nil, mx_dgS hd, mx_s18, mx_s19]
theorem mx_tD_g {d l : Int32} (hd : mx_dg d) (hl : mx_dg l) {s : Nat} : mx_g (mx_K1 s) mx_K2 mx_K3 (mx_tD d l 0) = mx_G1 s [18, 18, 18, 0, 19, 19, 19, 17, 0] := by
  apply mx_gs
  show List.map mx_shp [18, 18, 18, d, 19, 19, 19, 17, l] = _
  simp only [List.map_cons, List.map_nil, mx_dgS hd, mx_dgS hl, mx_s17, mx_s18, mx_s19]
theorem mx_tC_r {d : Int32} (hd : mx_dg d) {s : Nat} (hs : s < 3) : ∀ i, i < 3 → mx_cRead (mx_g (mx_K1 s) mx_K2 mx_K3 (mx_tC d (i + 1))) (!(decide (i = 2))) (fun _ _ => decide (i = 2)) = true := by
  intro i hi
  match i, hi with
  | 0, _ =>
    rw [mx_gs (T := [18, 18, 18, 0, 19])]
    · exact (mx_k_B s hs).1
    · show List.map mx_shp [18, 18, 18, d, 19] = _
      simp only [List.map_cons, List.map_nil, mx_dgS hd, mx_s18, mx_s19]
  | 1, _ =>
    rw [mx_gs (T := [18, 18, 18, 0, 19, 19])]
    · exact (mx_k_B s hs).2.1
    · show List.map mx_shp [18, 18, 18, d, 19, 19] = _
      simp only [List.map_cons, List.map_nil, mx_dgS hd, mx_s18, mx_s19]
  | 2, _ =>
    rw [mx_tC_g hd]
    exact (mx_k_B s hs).2.2
theorem mx_w735 {post : Int32 → St0 → Prop} {mc ms kc ks : Nat} {s : Nat} {d l : Int32} (hs : s < 3) (hd : mx_dg d) (hl : mx_dg l) (hp : post 1 ()) :
    ∀ (m i : Nat), i + m = 3 → ∀ (c N O W F top : Int32) (a1 a2 a3 a4 a5 a6 a7 a8 a9 a10 a11 a12 a13 a14 : Nat → Int32), mx_Us s (mx_tC d i) (c, N, O, W, F, top, a1, a2, a3, a4, a5, a6, a7, a8, a9, a10, a11, a12, a13, a14) → wL_lawOf_735 post mc ms l d kc ks (m + 1) 1 (nI i) c N O W F top a1 a2 a3 a4 a5 a6 a7 a8 a9 a10 a11 a12 a13 a14 := by
  intro m
  induction m with
  | zero =>
    intro i hi c N O W F top a1 a2 a3 a4 a5 a6 a7 a8 a9 a10 a11 a12 a13 a14 U
    have hi' : i = 3 := by omega
    subst hi'
    refine pk_le 3 3 (fun _ => ?_) (fun z => absurd z (by omega))
    have k := mx_k_C s hs
    have k' := mx_k_D s hs
    rw [← mx_tC_g hd] at k
    rw [← mx_tD_g hd hl] at k'
    refine br_f (by decide) (mx_strength 5 U k.1 (fun u U => ?_))
    obtain ⟨c, N, O, W, F, top, a1, a2, a3, a4, a5, a6, a7, a8, a9, a10, a11, a12, a13, a14⟩ := u
    refine br_t rfl (mx_spare 3 U k.2.1 (fun u U => ?_))
    obtain ⟨c, N, O, W, F, top, a1, a2, a3, a4, a5, a6, a7, a8, a9, a10, a11, a12, a13, a14⟩ := u
    refine br_t rfl (mx_root (-4) U k.2.2.1 (fun u U => ?_))
    obtain ⟨c, N, O, W, F, top, a1, a2, a3, a4, a5, a6, a7, a8, a9, a10, a11, a12, a13, a14⟩ := u
    refine br_t rfl (mx_depth 3 U k.2.2.2.1 (fun u U => ?_))
    obtain ⟨c, N, O, W, F, top, a1, a2, a3, a4, a5, a6, a7, a8, a9, a10, a11, a12, a13, a14⟩ := u
    refine br_t rfl (mx_depth 1 U k.2.2.2.2 (fun u U => ?_))
    obtain ⟨c, N, O, W, F, top, a1, a2, a3, a4, a5, a6, a7, a8, a9, a10, a11, a12, a13, a14⟩ := u
    refine br_t rfl (mx_token U (by decide) (by decide) (by rw [mx_tC_l]; omega) (fun u U => ?_))
    obtain ⟨c, N, O, W, F, top, a1, a2, a3, a4, a5, a6, a7, a8, a9, a10, a11, a12, a13, a14⟩ := u
    refine br_t rfl (mx_token U (mx_dg0 hl) (mx_dg19 hl) (by rw [mx_len, mx_tC_l]; omega) (fun u U => ?_))
    obtain ⟨c, N, O, W, F, top, a1, a2, a3, a4, a5, a6, a7, a8, a9, a10, a11, a12, a13, a14⟩ := u
    refine br_t rfl (mx_value [(1, 3), (-1, 8)] (tx := mx_tD d l 0) U k'.1 (fun u U => ?_))
    have t3 : mx_t u 3 = d := mx_U_t U rfl
    have t8 : mx_t u 8 = l := mx_U_t U rfl
    have tv : mx_ev (mx_t u) [(1, 3), (-1, 8)] = d - l := by
      show 1 * mx_t u 3 + (-1 * mx_t u 8 + 0) = d - l
      rw [t3, t8]
      grind
    rw [tv]
    obtain ⟨c, N, O, W, F, top, a1, a2, a3, a4, a5, a6, a7, a8, a9, a10, a11, a12, a13, a14⟩ := u
    refine br_t rfl (mx_root 7 U k'.2.1 (fun u U => ?_))
    obtain ⟨c, N, O, W, F, top, a1, a2, a3, a4, a5, a6, a7, a8, a9, a10, a11, a12, a13, a14⟩ := u
    refine br_t rfl (mx_spare 3 U k'.2.2.1 (fun u U => ?_))
    obtain ⟨c, N, O, W, F, top, a1, a2, a3, a4, a5, a6, a7, a8, a9, a10, a11, a12, a13, a14⟩ := u
    refine br_t rfl (mx_depth 4 U k'.2.2.2 (fun u U => ?_))
    obtain ⟨c, N, O, W, F, top, a1, a2, a3, a4, a5, a6, a7, a8, a9, a10, a11, a12, a13, a14⟩ := u
    refine br_t rfl ⟨9, mx_w908 hs hd hl hp 8 0 rfl _ _ _ _ _ _ _ _ _ _ _ _ _ _ _ _ _ _ _ _ U⟩
  | succ m ih =>
    intro i hi c N O W F top a1 a2 a3 a4 a5 a6 a7 a8 a9 a10 a11 a12 a13 a14 U
    refine pk_le 3 i (fun z => absurd z (by omega)) (fun _ => br_f (by decide) ?_)
    refine mx_token U (by decide) (by decide) (by rw [mx_tC_l]; omega) (fun u U => ?_)
    obtain ⟨c, N, O, W, F, top, a1, a2, a3, a4, a5, a6, a7, a8, a9, a10, a11, a12, a13, a14⟩ := u
    rw [mx_tC_s] at U
    refine br_t ?_ (mx_reads (decide (i = 2)) U (mx_tC_r hd hs i (by omega)) (fun u U => ?_))
    · rw [mx_tC_l]
      show nI (4 + i + 1) = nI 5 + nI i
      rw [nI_add, show 4 + i + 1 = 5 + i by omega]
    obtain ⟨c, N, O, W, F, top, a1, a2, a3, a4, a5, a6, a7, a8, a9, a10, a11, a12, a13, a14⟩ := u
    refine pk_eq i 2 (fun e => br_t ?_ (nm_r (nI_1 i) (ih (i + 1) (by omega) _ _ _ _ _ _ _ _ _ _ _ _ _ _ _ _ _ _ _ _ U))) (fun e => br_t ?_ (nm_r (nI_1 i) (ih (i + 1) (by omega) _ _ _ _ _ _ _ _ _ _ _ _ _ _ _ _ _ _ _ _ U)))
    · rw [decide_eq_true e]
      rfl
    · rw [decide_eq_false e]
      rfl
theorem mx_w666 {post : Int32 → St0 → Prop} {mc ms kc ks : Nat} {s : Nat} {d l : Int32} (hs : s < 3) (hd : mx_dg d) (hl : mx_dg l) (hp : post 1 ()) :
    ∀ (m i : Nat), i + m = 3 → ∀ (c N O W F top : Int32) (a1 a2 a3 a4 a5 a6 a7 a8 a9 a10 a11 a12 a13 a14 : Nat → Int32), mx_Us s (List.replicate i 18) (c, N, O, W, F, top, a1, a2, a3, a4, a5, a6, a7, a8, a9, a10, a11, a12, a13, a14) → wL_lawOf_666 post mc ms l d kc ks (m + 1) 1 (nI i) c N O W F top a1 a2 a3 a4 a5 a6 a7 a8 a9 a10 a11 a12 a13 a14 := by
  intro m
  induction m with
  | zero =>
    intro i hi c N O W F top a1 a2 a3 a4 a5 a6 a7 a8 a9 a10 a11 a12 a13 a14 U
    have hi' : i = 3 := by omega
    subst hi'
    refine pk_le 3 3 (fun _ => ?_) (fun z => absurd z (by omega))
    refine br_f (by decide) (mx_token U (mx_dg0 hd) (mx_dg19 hd) (by rw [List.length_replicate]; omega) (fun u U => ?_))
    obtain ⟨c, N, O, W, F, top, a1, a2, a3, a4, a5, a6, a7, a8, a9, a10, a11, a12, a13, a14⟩ := u
    refine br_t rfl (mx_endings (tx := mx_tC d 0) U (by rw [mx_tC_l]; omega) ?_ (fun u U => ?_))
    · intro t ht
      rw [mx_gs (T := [18, 18, 18, 0, mx_shp (nI t)])]
      · exact mx_k_E1 s hs t ht
      · show List.map mx_shp [18, 18, 18, d, nI t] = _
        simp only [List.map_cons, List.map_nil, mx_dgS hd, mx_s18, mx_s19]
    obtain ⟨c, N, O, W, F, top, a1, a2, a3, a4, a5, a6, a7, a8, a9, a10, a11, a12, a13, a14⟩ := u
    exact br_t rfl ⟨4, mx_w735 hs hd hl hp 3 0 rfl _ _ _ _ _ _ _ _ _ _ _ _ _ _ _ _ _ _ _ _ U⟩
  | succ m ih =>
    intro i hi c N O W F top a1 a2 a3 a4 a5 a6 a7 a8 a9 a10 a11 a12 a13 a14 U
    refine pk_le 3 i (fun z => absurd z (by omega)) (fun _ => br_f (by decide) ?_)
    refine mx_token U (by decide) (by decide) (by rw [List.length_replicate]; omega) (fun u U => ?_)
    obtain ⟨c, N, O, W, F, top, a1, a2, a3, a4, a5, a6, a7, a8, a9, a10, a11, a12, a13, a14⟩ := u
    rw [← List.replicate_succ'] at U
    refine br_t ?_ (nm_r (nI_1 i) (ih (i + 1) (by omega) _ _ _ _ _ _ _ _ _ _ _ _ _ _ _ _ _ _ _ _ U))
    rw [List.length_replicate, nI_1]
theorem mx_w657 {post : Int32 → St0 → Prop} {mc ms kc ks : Nat} {s : Nat} {d l : Int32} {tx : List Int32} (hs : s < 3) (hd : mx_dg d) (hl : mx_dg l) (hp : post 1 ()) {c N O W F top : Int32} {a1 a2 a3 a4 a5 a6 a7 a8 a9 a10 a11 a12 a13 a14 : Nat → Int32} (U : mx_Us s tx (c, N, O, W, F, top, a1, a2, a3, a4, a5, a6, a7, a8, a9, a10, a11, a12, a13, a14)) : wL_lawOf_657 post mc ms l d 1 kc ks c N O W F top a1 a2 a3 a4 a5 a6 a7 a8 a9 a10 a11 a12 a13 a14 := by
  unfold wL_lawOf_657
  refine mx_clear U (fun u U => ?_)
  obtain ⟨c, N, O, W, F, top, a1, a2, a3, a4, a5, a6, a7, a8, a9, a10, a11, a12, a13, a14⟩ := u
  exact ⟨4, mx_w666 hs hd hl hp 3 0 rfl _ _ _ _ _ _ _ _ _ _ _ _ _ _ _ _ _ _ _ _ U⟩
theorem mx_w541 {post : Int32 → St0 → Prop} {mc ms kc ks : Nat} {s : Nat} {d l : Int32} (hs : s < 3) (hd : mx_dg d) (hl : mx_dg l) (hp : post 1 ()) :
    ∀ (m i : Nat), i + m = 3 → ∀ (c N O W F top : Int32) (a1 a2 a3 a4 a5 a6 a7 a8 a9 a10 a11 a12 a13 a14 : Nat → Int32), mx_Us s (List.replicate i 16) (c, N, O, W, F, top, a1, a2, a3, a4, a5, a6, a7, a8, a9, a10, a11, a12, a13, a14) → wL_lawOf_541 post mc ms l d kc ks (m + 1) 1 (nI i) c N O W F top a1 a2 a3 a4 a5 a6 a7 a8 a9 a10 a11 a12 a13 a14 := by
  intro m
  induction m with
  | zero =>
    intro i hi c N O W F top a1 a2 a3 a4 a5 a6 a7 a8 a9 a10 a11 a12 a13 a14 U
    have hi' : i = 3 := by omega
    subst hi'
    have k0 := mx_k_A0 s hs
    have k := mx_k_A s hs
    have g0 : mx_g (mx_K1 s) mx_K2 mx_K3 (List.replicate 3 16) = mx_G1 s [16, 16, 16] := by
      apply mx_gs
      show List.map mx_shp [16, 16, 16] = _
      simp only [List.map_cons, List.map_nil, mx_s16]
    have g1 : mx_g (mx_K1 s) mx_K2 mx_K3 [16, 16, 16, d] = mx_G1 s [16, 16, 16, 0] := by
      apply mx_gs
      simp only [List.map_cons, List.map_nil, mx_dgS hd, mx_s16]
    rw [← g0] at k0
    rw [← g1] at k
    refine pk_le 3 3 (fun _ => ?_) (fun z => absurd z (by omega))
    refine br_f (by decide) (mx_reads false U k0 (fun u U => ?_))
    obtain ⟨c, N, O, W, F, top, a1, a2, a3, a4, a5, a6, a7, a8, a9, a10, a11, a12, a13, a14⟩ := u
    refine br_t rfl (mx_token U (mx_dg0 hd) (mx_dg19 hd) (by rw [List.length_replicate]; omega) (fun u U => ?_))
    obtain ⟨c, N, O, W, F, top, a1, a2, a3, a4, a5, a6, a7, a8, a9, a10, a11, a12, a13, a14⟩ := u
    refine br_t rfl (mx_reads (tx := [16, 16, 16, d]) true U k.1 (fun u U => ?_))
    obtain ⟨c, N, O, W, F, top, a1, a2, a3, a4, a5, a6, a7, a8, a9, a10, a11, a12, a13, a14⟩ := u
    refine br_f (by decide) (mx_value [(8, 3)] U k.2.1 (fun u U => ?_))
    have t3 : mx_t u 3 = d := mx_U_t U rfl
    have tv : mx_ev (mx_t u) [(8, 3)] = 8 * d := by
      show 8 * mx_t u 3 + 0 = 8 * d
      rw [t3]
      grind
    rw [tv]
    obtain ⟨c, N, O, W, F, top, a1, a2, a3, a4, a5, a6, a7, a8, a9, a10, a11, a12, a13, a14⟩ := u
    refine br_t rfl (mx_strength 4 U k.2.2.1 (fun u U => ?_))
    obtain ⟨c, N, O, W, F, top, a1, a2, a3, a4, a5, a6, a7, a8, a9, a10, a11, a12, a13, a14⟩ := u
    refine br_t rfl (mx_root 0 U k.2.2.2.1 (fun u U => ?_))
    obtain ⟨c, N, O, W, F, top, a1, a2, a3, a4, a5, a6, a7, a8, a9, a10, a11, a12, a13, a14⟩ := u
    refine br_t rfl (mx_depth 3 U k.2.2.2.2.1 (fun u U => ?_))
    obtain ⟨c, N, O, W, F, top, a1, a2, a3, a4, a5, a6, a7, a8, a9, a10, a11, a12, a13, a14⟩ := u
    refine br_t rfl (mx_depth 2 U k.2.2.2.2.2 (fun u U => ?_))
    obtain ⟨c, N, O, W, F, top, a1, a2, a3, a4, a5, a6, a7, a8, a9, a10, a11, a12, a13, a14⟩ := u
    exact br_t rfl (mx_w657 hs hd hl hp U)
  | succ m ih =>
    intro i hi c N O W F top a1 a2 a3 a4 a5 a6 a7 a8 a9 a10 a11 a12 a13 a14 U
    refine pk_le 3 i (fun z => absurd z (by omega)) (fun _ => br_f (by decide) ?_)
    refine mx_token U (by decide) (by decide) (by rw [List.length_replicate]; omega) (fun u U => ?_)
    obtain ⟨c, N, O, W, F, top, a1, a2, a3, a4, a5, a6, a7, a8, a9, a10, a11, a12, a13, a14⟩ := u
    rw [← List.replicate_succ'] at U
    refine br_t ?_ (nm_r (nI_1 i) (ih (i + 1) (by omega) _ _ _ _ _ _ _ _ _ _ _ _ _ _ _ _ _ _ _ _ U))
    rw [List.length_replicate, nI_1]
end
section
/-- the text: n digits with a minus between -/
def mx_tN (d : Nat → Int32) : Nat → List Int32
  | 0 => []
  | n + 1 => if n = 0 then [d 0] else mx_tN d n ++ [17, d n]
def mx_vv (d : Nat → Int32) : Nat → Int32
  | 0 => 0
  | n + 1 => if n = 0 then d 0 else mx_vv d n - d n
def mx_rr (d : Nat → Int32) : Nat → Nat → Int32
  | _, 0 => 0
  | i, k + 1 => d i - mx_rr d (i + 1) k
theorem mx_tN_0 (d : Nat → Int32) : mx_tN d (0 + 1) = [d 0] := rfl
theorem mx_tN_s (d : Nat → Int32) {n : Nat} (h : n ≠ 0) : mx_tN d (n + 1) = mx_tN d n ++ [17, d n] := by
  show (if n = 0 then [d 0] else mx_tN d n ++ [17, d n]) = _
  rw [if_neg h]
theorem mx_tN_l (d : Nat → Int32) : ∀ n : Nat, (mx_tN d (n + 1)).length = 2 * n + 1
  | 0 => rfl
  | n + 1 => by
    rw [mx_tN_s d (Nat.succ_ne_zero n), List.length_append, mx_tN_l d n]
    show 2 * n + 1 + 2 = 2 * (n + 1) + 1
    omega
theorem mx_tN_m {d : Nat → Int32} (hd : ∀ i, mx_dg (d i)) : ∀ n : Nat, (mx_tN d n).map mx_shp = mx_sh n
  | 0 => rfl
  | 1 => by
    show [mx_shp (d 0)] = [0]
    rw [mx_dgS (hd 0)]
  | n + 2 => by
    rw [mx_tN_s d (Nat.succ_ne_zero n), List.map_append, mx_tN_m hd (n + 1)]
    show mx_sh (n + 1) ++ [mx_shp 17, mx_shp (d (n + 1))] = (if n + 1 = 0 then [0] else mx_sh (n + 1) ++ [17, 0])
    rw [if_neg (Nat.succ_ne_zero n), mx_s17, mx_dgS (hd (n + 1))]
theorem mx_tN_g {d : Nat → Int32} (hd : ∀ i, mx_dg (d i)) (s n : Nat) : mx_g (mx_K1 s) mx_K2 mx_K3 (mx_tN d n) = mx_G1 s (mx_sh n) := mx_gs (mx_tN_m hd n)
theorem mx_tN_a {d : Nat → Int32} : ∀ n j : Nat, j < n → (mx_tN d n)[2 * j]? = some (d j)
  | 0, j, h => absurd h (Nat.not_lt_zero j)
  | 1, j, h => by
    have e : j = 0 := by omega
    subst e
    rfl
  | n + 2, j, h => by
    rw [mx_tN_s d (show n + 1 ≠ 0 by omega)]
    have hl := mx_tN_l d n
    by_cases e : j = n + 1
    · subst e
      rw [List.getElem?_append_right (by omega), hl, show 2 * (n + 1) - (2 * n + 1) = 1 by omega]
      rfl
    · rw [List.getElem?_append_left (by omega)]
      exact mx_tN_a (n + 1) j (by omega)
theorem mx_evL {d t : Nat → Int32} : ∀ n : Nat, (∀ j, j < n → t (2 * j) = d j) → mx_ev t (mx_vL n) = mx_vv d n
  | 0, _ => rfl
  | 1, h => by
    have h0 : t 0 = d 0 := h 0 (by omega)
    show 1 * t 0 + 0 = d 0
    rw [h0]
    grind
  | n + 2, h => by
    show mx_ev t (mx_vL (n + 1) ++ [(if n + 1 = 0 then 1 else -1, 2 * (n + 1))]) = (if n + 1 = 0 then d 0 else mx_vv d (n + 1) - d (n + 1))
    rw [if_neg (Nat.succ_ne_zero n), if_neg (Nat.succ_ne_zero n), mx_ev_app, mx_evL (n + 1) (fun j hj => h j (by omega))]
    show mx_vv d (n + 1) + (-1 * t (2 * (n + 1)) + 0) = _
    rw [h (n + 1) (by omega)]
    grind
theorem mx_evR {d t : Nat → Int32} (n : Nat) (hn : n < 6) (h : ∀ j, j < n + 1 → t (2 * j) = d j) : mx_ev t (mx_vR (n + 1)) = mx_rr d 0 (n + 1) := by
  match n, hn with
  | 0, _ =>
    have h0 : t 0 = d 0 := h 0 (by omega)
    show 1 * t 0 + 0 = d 0 - 0
    grind
  | 1, _ =>
    have h0 : t 0 = d 0 := h 0 (by omega)
    have h1 : t 2 = d 1 := h 1 (by omega)
    show 1 * t 0 + (-1 * t 2 + 0) = d 0 - (d 1 - 0)
    grind
  | 2, _ =>
    have h0 : t 0 = d 0 := h 0 (by omega)
    have h1 : t 2 = d 1 := h 1 (by omega)
    have h2 : t 4 = d 2 := h 2 (by omega)
    show 1 * t 0 + (-1 * t 2 + (1 * t 4 + 0)) = d 0 - (d 1 - (d 2 - 0))
    grind
  | 3, _ =>
    have h0 : t 0 = d 0 := h 0 (by omega)
    have h1 : t 2 = d 1 := h 1 (by omega)
    have h2 : t 4 = d 2 := h 2 (by omega)
    have h3 : t 6 = d 3 := h 3 (by omega)
    show 1 * t 0 + (-1 * t 2 + (1 * t 4 + (-1 * t 6 + 0))) = d 0 - (d 1 - (d 2 - (d 3 - 0)))
    grind
  | 4, _ =>
    have h0 : t 0 = d 0 := h 0 (by omega)
    have h1 : t 2 = d 1 := h 1 (by omega)
    have h2 : t 4 = d 2 := h 2 (by omega)
    have h3 : t 6 = d 3 := h 3 (by omega)
    have h4 : t 8 = d 4 := h 4 (by omega)
    show 1 * t 0 + (-1 * t 2 + (1 * t 4 + (-1 * t 6 + (1 * t 8 + 0)))) = d 0 - (d 1 - (d 2 - (d 3 - (d 4 - 0))))
    grind
  | 5, _ =>
    have h0 : t 0 = d 0 := h 0 (by omega)
    have h1 : t 2 = d 1 := h 1 (by omega)
    have h2 : t 4 = d 2 := h 2 (by omega)
    have h3 : t 6 = d 3 := h 3 (by omega)
    have h4 : t 8 = d 4 := h 4 (by omega)
    have h5 : t 10 = d 5 := h 5 (by omega)
    show 1 * t 0 + (-1 * t 2 + (1 * t 4 + (-1 * t 6 + (1 * t 8 + (-1 * t 10 + 0))))) = d 0 - (d 1 - (d 2 - (d 3 - (d 4 - (d 5 - 0)))))
    grind
theorem mx_w486 {post : Int32 → St0 → Prop} {mc ms kc ks : Nat} {s n i : Nat} {d : Nat → Int32} {l e : Int32} {b : Bool} {J : Int32 → Int32 → Int32 → Int32 → Int32 → Int32 → Int32 → Int32 → (Nat → Int32) → (Nat → Int32) → (Nat → Int32) → (Nat → Int32) → (Nat → Int32) → (Nat → Int32) → (Nat → Int32) → (Nat → Int32) → (Nat → Int32) → (Nat → Int32) → (Nat → Int32) → (Nat → Int32) → (Nat → Int32) → (Nat → Int32) → Prop}
    (hs : s < 3) (hn : n < 6) (hi : i < 6) (hd : ∀ i, mx_dg (d i)) (hb : mx_rb s (n + 1) = b) (he : e = mx_dp (nI s) (nI (n + 1)) (nI i)) (hJ : ∀ (c N O W F top : Int32) (a1 a2 a3 a4 a5 a6 a7 a8 a9 a10 a11 a12 a13 a14 : Nat → Int32), mx_Us s (mx_tN d (n + 1)) (c, N, O, W, F, top, a1, a2, a3, a4, a5, a6, a7, a8, a9, a10, a11, a12, a13, a14) → J 1 (nI (i + 1)) c N O W F top a1 a2 a3 a4 a5 a6 a7 a8 a9 a10 a11 a12 a13 a14) {c N O W F top : Int32} {a1 a2 a3 a4 a5 a6 a7 a8 a9 a10 a11 a12 a13 a14 : Nat → Int32} (U : mx_Us s (mx_tN d (n + 1)) (c, N, O, W, F, top, a1, a2, a3, a4, a5, a6, a7, a8, a9, a10, a11, a12, a13, a14)) :
    wL_lawOf_486 post mc ms J (nI s) (nI (n + 1)) l 1 (d 0) (if b then 1 else 0) (nI i) (2 * nI i) e kc ks c N O W F top a1 a2 a3 a4 a5 a6 a7 a8 a9 a10 a11 a12 a13 a14 := by
  refine br_f (by decide) (mx_depth (mx_de s (n + 1) i) U ?_ (fun u U => ?_))
  · rw [mx_tN_g hd]
    exact mx_k_depth s hs n hn i hi
  obtain ⟨c, N, O, W, F, top, a1, a2, a3, a4, a5, a6, a7, a8, a9, a10, a11, a12, a13, a14⟩ := u
  unfold mx_de
  refine pk_le (n + 1) i (fun z => ?_) (fun z => ?_)
  · rw [if_pos z]
    exact br_t rfl (nm_r (nI_1 i) (hJ _ _ _ _ _ _ _ _ _ _ _ _ _ _ _ _ _ _ _ _ U))
  · rw [if_neg (Nat.not_le.mpr z), hb]
    cases b
    · exact br_t rfl (br_t rfl (nm_r (nI_1 i) (hJ _ _ _ _ _ _ _ _ _ _ _ _ _ _ _ _ _ _ _ _ U)))
    · exact br_f (by decide) (br_t he.symm (nm_r (nI_1 i) (hJ _ _ _ _ _ _ _ _ _ _ _ _ _ _ _ _ _ _ _ _ U)))
theorem mx_w417 {post : Int32 → St0 → Prop} {mc ms kc ks : Nat} {s n : Nat} {d : Nat → Int32} {l : Int32} {b : Bool} (hs : s < 3) (hn : n < 6) (hd : ∀ i, mx_dg (d i)) (hl : mx_dg l) (hb : mx_rb s (n + 1) = b) (hp : post 1 ()) :
    ∀ (m i : Nat), i + m = 6 → ∀ (c N O W F top : Int32) (a1 a2 a3 a4 a5 a6 a7 a8 a9 a10 a11 a12 a13 a14 : Nat → Int32), mx_Us s (mx_tN d (n + 1)) (c, N, O, W, F, top, a1, a2, a3, a4, a5, a6, a7, a8, a9, a10, a11, a12, a13, a14) → wL_lawOf_417 post mc ms (nI s) (nI (n + 1)) l (d 0) (if b then 1 else 0) kc ks (m + 1) 1 (nI i) c N O W F top a1 a2 a3 a4 a5 a6 a7 a8 a9 a10 a11 a12 a13 a14 := by
  intro m
  induction m with
  | zero =>
    intro i hi c N O W F top a1 a2 a3 a4 a5 a6 a7 a8 a9 a10 a11 a12 a13 a14 U
    have hi' : i = 6 := by omega
    subst hi'
    refine pk_le 6 6 (fun _ => ?_) (fun z => absurd z (by omega))
    refine mx_clear U (fun u U => ?_)
    obtain ⟨c, N, O, W, F, top, a1, a2, a3, a4, a5, a6, a7, a8, a9, a10, a11, a12, a13, a14⟩ := u
    exact ⟨4, mx_w541 hs (hd 0) hl hp 3 0 rfl _ _ _ _ _ _ _ _ _ _ _ _ _ _ _ _ _ _ _ _ U⟩
  | succ m ih =>
    intro i hi c N O W F top a1 a2 a3 a4 a5 a6 a7 a8 a9 a10 a11 a12 a13 a14 U
    refine pk_le 6 i (fun z => absurd z (by omega)) (fun _ => nm_e ?_)
    have hJ := ih (i + 1) (by omega)
    have hi6 : i < 6 := by omega
    refine br_c (fun g1 => ?_) (fun g1 => br_c (fun g2 => br_c (fun g3 => ?_) (fun g3 => ?_)) (fun g2 => br_c (fun g3 => ?_) (fun g3 => ?_)))
    · exact mx_w486 hs hn hi6 hd hb (by unfold mx_dp; rw [if_pos g1]) hJ U
    · exact mx_w486 hs hn hi6 hd hb (by unfold mx_dp; rw [if_neg g1, if_pos g2, if_pos g3]) hJ U
    · exact mx_w486 hs hn hi6 hd hb (by unfold mx_dp; rw [if_neg g1, if_pos g2, if_neg g3]) hJ U
    · exact mx_w486 hs hn hi6 hd hb (by unfold mx_dp; rw [if_neg g1, if_neg g2, if_pos g3]) hJ U
    · exact mx_w486 hs hn hi6 hd hb (by unfold mx_dp; rw [if_neg g1, if_neg g2, if_neg g3]) hJ U
theorem mx_w386 {post : Int32 → St0 → Prop} {mc ms kc ks : Nat} {s n : Nat} {d : Nat → Int32} {l e e' : Int32} {b : Bool} (hs : s < 3) (hn : n < 6) (hd : ∀ i, mx_dg (d i)) (hl : mx_dg l) (hb : mx_rb s (n + 1) = b) (he : e' = e) (hp : post 1 ())
    {c N O W F top : Int32} {a1 a2 a3 a4 a5 a6 a7 a8 a9 a10 a11 a12 a13 a14 : Nat → Int32} (U : mx_Us s (mx_tN d (n + 1)) (c, N, O, W, F, top, a1, a2, a3, a4, a5, a6, a7, a8, a9, a10, a11, a12, a13, a14)) : wL_lawOf_386 post mc ms (nI s) (nI (n + 1)) l (d 0) (if b then 1 else 0) e e' kc ks c N O W F top a1 a2 a3 a4 a5 a6 a7 a8 a9 a10 a11 a12 a13 a14 := by
  refine br_t he (mx_spare (mx_sp s (n + 1)) U ?_ (fun u U => ?_))
  · rw [mx_tN_g hd]
    exact mx_k_spare s hs n hn
  obtain ⟨c, N, O, W, F, top, a1, a2, a3, a4, a5, a6, a7, a8, a9, a10, a11, a12, a13, a14⟩ := u
  unfold mx_sp
  rw [hb]
  cases b
  · exact br_t rfl (br_t rfl ⟨7, mx_w417 (b := false) hs hn hd hl hb hp 6 0 rfl _ _ _ _ _ _ _ _ _ _ _ _ _ _ _ _ _ _ _ _ U⟩)
  · exact br_f (by decide) (br_t rfl ⟨7, mx_w417 (b := true) hs hn hd hl hb hp 6 0 rfl _ _ _ _ _ _ _ _ _ _ _ _ _ _ _ _ _ _ _ _ U⟩)
theorem mx_w327 {post : Int32 → St0 → Prop} {mc ms kc ks : Nat} {s n : Nat} {d : Nat → Int32} {l x12 e : Int32} {b : Bool} (hs : s < 3) (hn : n < 6) (hd : ∀ i, mx_dg (d i)) (hl : mx_dg l) (hb : mx_rb s (n + 1) = b) (hv : ∀ u, mx_Us s (mx_tN d (n + 1)) u → mx_ev (mx_t u) (mx_vd s (n + 1)) = x12) (he : mx_rt s (n + 1) = e) (hp : post 1 ())
    {c N O W F top : Int32} {a1 a2 a3 a4 a5 a6 a7 a8 a9 a10 a11 a12 a13 a14 : Nat → Int32} (U : mx_Us s (mx_tN d (n + 1)) (c, N, O, W, F, top, a1, a2, a3, a4, a5, a6, a7, a8, a9, a10, a11, a12, a13, a14)) : wL_lawOf_327 post mc ms (nI s) (nI (n + 1)) l 1 (d 0) (if b then 1 else 0) x12 e kc ks c N O W F top a1 a2 a3 a4 a5 a6 a7 a8 a9 a10 a11 a12 a13 a14 := by
  refine br_f (by decide) (mx_reads b U ?_ (fun u U => ?_))
  · rw [mx_tN_g hd, ← hb]
    exact mx_k_reads s hs n hn
  obtain ⟨c, N, O, W, F, top, a1, a2, a3, a4, a5, a6, a7, a8, a9, a10, a11, a12, a13, a14⟩ := u
  refine br_t rfl (mx_value (mx_vd s (n + 1)) U ?_ (fun u U => ?_))
  · rw [mx_tN_g hd]
    exact mx_k_value s hs n hn
  rw [hv u U]
  obtain ⟨c, N, O, W, F, top, a1, a2, a3, a4, a5, a6, a7, a8, a9, a10, a11, a12, a13, a14⟩ := u
  refine br_t rfl (mx_root (mx_rt s (n + 1)) U ?_ (fun u U => ?_))
  · rw [mx_tN_g hd]
    exact mx_k_root s hs n hn
  obtain ⟨c, N, O, W, F, top, a1, a2, a3, a4, a5, a6, a7, a8, a9, a10, a11, a12, a13, a14⟩ := u
  refine br_t he (mx_strength (mx_st s (n + 1)) U ?_ (fun u U => ?_))
  · rw [mx_tN_g hd]
    exact mx_k_strength s hs n hn
  obtain ⟨c, N, O, W, F, top, a1, a2, a3, a4, a5, a6, a7, a8, a9, a10, a11, a12, a13, a14⟩ := u
  unfold mx_st
  rw [hb]
  cases b
  · exact br_t rfl (mx_w386 (b := false) hs hn hd hl hb rfl hp U)
  · refine br_f (by decide) (pk_eq (n + 1) 1 (fun z => ?_) (fun z => ?_))
    · rw [if_pos rfl, if_pos z]
      exact mx_w386 (b := true) hs hn hd hl hb rfl hp U
    · rw [if_pos rfl, if_neg z]
      exact mx_w386 (b := true) hs hn hd hl hb rfl hp U
theorem mx_w293 {post : Int32 → St0 → Prop} {mc ms kc ks : Nat} {s n : Nat} {d : Nat → Int32} {l x12 : Int32} {b : Bool} (hs : s < 3) (hn : n < 6) (hd : ∀ i, mx_dg (d i)) (hl : mx_dg l) (hb : mx_rb s (n + 1) = b) (hv : ∀ u, mx_Us s (mx_tN d (n + 1)) u → mx_ev (mx_t u) (mx_vd s (n + 1)) = x12) (hp : post 1 ())
    {c N O W F top : Int32} {a1 a2 a3 a4 a5 a6 a7 a8 a9 a10 a11 a12 a13 a14 : Nat → Int32} (U : mx_Us s (mx_tN d (n + 1)) (c, N, O, W, F, top, a1, a2, a3, a4, a5, a6, a7, a8, a9, a10, a11, a12, a13, a14)) : wL_lawOf_293 post mc ms (nI s) (nI (n + 1)) l 1 (d 0) (if b then 1 else 0) x12 kc ks c N O W F top a1 a2 a3 a4 a5 a6 a7 a8 a9 a10 a11 a12 a13 a14 := by
  refine pk_eq (n + 1) 1 (fun z => ?_) (fun z => ?_)
  · exact mx_w327 hs hn hd hl hb hv (by unfold mx_rt; rw [if_pos z]) hp U
  · cases b
    · exact br_t rfl (mx_w327 (b := false) hs hn hd hl hb hv (by unfold mx_rt; rw [if_neg z, hb]; rfl) hp U)
    · refine br_f (by decide) (pk_eq s 1 (fun g => ?_) (fun g => ?_))
      · exact mx_w327 (b := true) hs hn hd hl hb hv (by unfold mx_rt; rw [if_neg z, hb, if_pos rfl, if_pos g]) hp U
      · exact mx_w327 (b := true) hs hn hd hl hb hv (by unfold mx_rt; rw [if_neg z, hb, if_pos rfl, if_neg g]) hp U
theorem mx_w269 {post : Int32 → St0 → Prop} {mc ms kc ks : Nat} {s n : Nat} {d : Nat → Int32} {l x8 x10 : Int32} {b : Bool} (hs : s < 3) (hn : n < 6) (hd : ∀ i, mx_dg (d i)) (hl : mx_dg l) (hb : mx_rb s (n + 1) = b) (h8 : x8 = mx_vv d (n + 1)) (h10 : x10 = mx_rr d 0 (n + 1)) (hp : post 1 ())
    {c N O W F top : Int32} {a1 a2 a3 a4 a5 a6 a7 a8 a9 a10 a11 a12 a13 a14 : Nat → Int32} (U : mx_Us s (mx_tN d (n + 1)) (c, N, O, W, F, top, a1, a2, a3, a4, a5, a6, a7, a8, a9, a10, a11, a12, a13, a14)) : wL_lawOf_269 post mc ms (nI s) (nI (n + 1)) l 1 x8 (d 0) x10 (if b then 1 else 0) kc ks c N O W F top a1 a2 a3 a4 a5 a6 a7 a8 a9 a10 a11 a12 a13 a14 := by
  have ht : ∀ u, mx_Us s (mx_tN d (n + 1)) u → ∀ j, j < n + 1 → mx_t u (2 * j) = d j := fun u U j hj => mx_U_t U (mx_tN_a (n + 1) j hj)
  cases b
  · refine br_t rfl (mx_w293 (b := false) hs hn hd hl hb (fun u U => ?_) hp U)
    unfold mx_vd
    rw [hb]
    rfl
  · refine br_f (by decide) (pk_eq s 1 (fun g => ?_) (fun g => ?_))
    · refine mx_w293 (b := true) hs hn hd hl hb (fun u U => ?_) hp U
      unfold mx_vd
      rw [hb, if_pos rfl, if_pos g, h10]
      exact mx_evR n hn (ht u U)
    · refine mx_w293 (b := true) hs hn hd hl hb (fun u U => ?_) hp U
      unfold mx_vd
      rw [hb, if_pos rfl, if_neg g, h8]
      exact mx_evL (n + 1) (ht u U)
end
section
/-- a counter that goes down, behind its last place -/
def mx_dn : Nat → Int32
  | 0 => -1
  | k + 1 => nI k
theorem mx_dn_s : ∀ k : Nat, nI k + (-1) = mx_dn k
  | 0 => by decide
  | k + 1 => pk_m1 k
/-- the digits of the first int -/
def mx_d (x0 : Int32) (i : Nat) : Int32 := ((x0 >>> ((4 * nI i) &&& 31)) &&& 15) - ((x0 >>> ((4 * nI i) &&& 31)) &&& 15) / 10 * 10
theorem mx_d_dg (x0 : Int32) (i : Nat) : mx_dg (mx_d x0 i) := by
  unfold mx_d
  obtain ⟨j, hj, e⟩ := pk_andE (x0 >>> ((4 * nI i) &&& 31)) (m := 15) 4 (by decide)
  rw [e]
  refine ⟨j % 10, by omega, ?_⟩
  exact pk_rem (d := 10) (by omega) (by decide) (by decide)
theorem mx_w208 {post : Int32 → St0 → Prop} {mc ms kc ks : Nat} {s n : Nat} {l x0 x8 : Int32} (hs : s < 3) (hn : n < 6) (hl : mx_dg l) (h8 : x8 = mx_vv (mx_d x0) (n + 1)) (hp : post 1 ())
    {c N O W F top : Int32} {a1 a2 a3 a4 a5 a6 a7 a8 a9 a10 a11 a12 a13 a14 : Nat → Int32} (U : mx_Us s (mx_tN (mx_d x0) (n + 1)) (c, N, O, W, F, top, a1, a2, a3, a4, a5, a6, a7, a8, a9, a10, a11, a12, a13, a14)) :
    ∀ (m : Nat) (x10 : Int32), m ≤ 6 → x10 = mx_rr (mx_d x0) m (n + 1 - m) → wL_lawOf_208 post mc ms x0 (nI s) (nI (n + 1)) l 1 x8 (mx_d x0 0) kc ks c N O W F top a1 a2 a3 a4 a5 a6 a7 a8 a9 a10 a11 a12 a13 a14 (m + 1) x10 (mx_dn m) := by
  have hd := mx_d_dg x0
  intro m
  induction m with
  | zero =>
    intro x10 _ h10
    refine br_t (show (-1 : Int32) < 0 by decide) ?_
    refine pk_lt s 2 (fun z => ?_) (fun z => pk_le 3 (n + 1) (fun g => ?_) (fun g => ?_))
    · exact mx_w269 (b := true) hs hn hd hl (by unfold mx_rb; rw [decide_eq_true z]; rfl) h8 h10 hp U
    · exact mx_w269 (b := false) hs hn hd hl (by unfold mx_rb; rw [decide_eq_false (Nat.not_lt.mpr z), decide_eq_false (Nat.not_lt.mpr g)]; rfl) h8 h10 hp U
    · exact mx_w269 (b := true) hs hn hd hl (by unfold mx_rb; rw [decide_eq_true g, Bool.or_true]) h8 h10 hp U
  | succ k ih =>
    intro x10 hk h10
    refine br_f (nI_pos (by omega)) ⟨by decide, nm_e (pk_le (n + 1) k (fun z => nm_r (mx_dn_s k) (ih _ (by omega) ?_)) (fun z => nm_e (nm_r (mx_dn_s k) (ih _ (by omega) ?_))))⟩
    · rw [h10, show n + 1 - (k + 1) = 0 by omega, show n + 1 - k = 0 by omega]
      rfl
    · rw [h10, show n + 1 - k = (n + 1 - (k + 1)) + 1 by omega]
      rfl
theorem mx_w143 {post : Int32 → St0 → Prop} {mc ms kc ks : Nat} {s n i : Nat} {l x0 x8 x9 : Int32} {tx : List Int32} {J : Int32 → Int32 → Int32 → Int32 → Int32 → Int32 → Int32 → Int32 → Int32 → Int32 → (Nat → Int32) → (Nat → Int32) → (Nat → Int32) → (Nat → Int32) → (Nat → Int32) → (Nat → Int32) → (Nat → Int32) → (Nat → Int32) → (Nat → Int32) → (Nat → Int32) → (Nat → Int32) → (Nat → Int32) → (Nat → Int32) → (Nat → Int32) → Prop}
    (hi : i < 6) (ht : tx.length = 2 * i) (ht' : tx ++ [mx_d x0 i] = mx_tN (mx_d x0) (i + 1)) (h8 : x8 = mx_vv (mx_d x0) i) (h9 : i ≠ 0 → x9 = mx_d x0 0)
    (hJ : ∀ (c N O W F top : Int32) (a1 a2 a3 a4 a5 a6 a7 a8 a9 a10 a11 a12 a13 a14 : Nat → Int32), mx_Us s (mx_tN (mx_d x0) (i + 1)) (c, N, O, W, F, top, a1, a2, a3, a4, a5, a6, a7, a8, a9, a10, a11, a12, a13, a14) → J 1 (mx_vv (mx_d x0) (i + 1)) (mx_d x0 0) (nI (i + 1)) c N O W F top a1 a2 a3 a4 a5 a6 a7 a8 a9 a10 a11 a12 a13 a14) {c N O W F top : Int32} {a1 a2 a3 a4 a5 a6 a7 a8 a9 a10 a11 a12 a13 a14 : Nat → Int32} (U : mx_Us s tx (c, N, O, W, F, top, a1, a2, a3, a4, a5, a6, a7, a8, a9, a10, a11, a12, a13, a14)) :
    wL_lawOf_143 post mc ms J x0 (nI s) (nI (n + 1)) l x8 x9 (nI i) (mx_d x0 i) kc ks c N O W F top a1 a2 a3 a4 a5 a6 a7 a8 a9 a10 a11 a12 a13 a14 := by
  have hd := mx_d_dg x0 i
  unfold wL_lawOf_143
  refine mx_token U (mx_dg0 hd) (mx_dg19 hd) (by omega) (fun u U => ?_)
  obtain ⟨c, N, O, W, F, top, a1, a2, a3, a4, a5, a6, a7, a8, a9, a10, a11, a12, a13, a14⟩ := u
  rw [ht'] at U
  have K := hJ _ _ _ _ _ _ _ _ _ _ _ _ _ _ _ _ _ _ _ _ U
  refine br_t ?_ (pk_eq i 0 (fun e => ?_) (fun e => ?_))
  · rw [ht]
    show nI (2 * i + 1) = nI 2 * nI i + 1
    rw [pk_mul, nI_1]
  · refine pk_eq i 0 (fun _ => nm_r (nI_1 i) ?_) (fun z => absurd e z)
    subst e
    exact K
  · refine pk_eq i 0 (fun z => absurd z e) (fun _ => nm_e (nm_r (nI_1 i) ?_))
    have e8 : mx_vv (mx_d x0) (i + 1) = x8 - mx_d x0 i := by
      show (if i = 0 then mx_d x0 0 else mx_vv (mx_d x0) i - mx_d x0 i) = _
      rw [if_neg e, h8]
    rw [e8] at K
    rw [h9 e]
    exact K
theorem mx_w92 {post : Int32 → St0 → Prop} {mc ms kc ks : Nat} {s n : Nat} {l x0 : Int32} (hs : s < 3) (hn : n < 6) (hl : mx_dg l) (hp : post 1 ()) :
    ∀ (m i : Nat), i + m = 6 → ∀ x8 x9 : Int32, x8 = mx_vv (mx_d x0) (min i (n + 1)) → (i ≠ 0 → x9 = mx_d x0 0) → ∀ (c N O W F top : Int32) (a1 a2 a3 a4 a5 a6 a7 a8 a9 a10 a11 a12 a13 a14 : Nat → Int32), mx_Us s (mx_tN (mx_d x0) (min i (n + 1))) (c, N, O, W, F, top, a1, a2, a3, a4, a5, a6, a7, a8, a9, a10, a11, a12, a13, a14) → wL_lawOf_92 post mc ms x0 (nI s) (nI (n + 1)) l kc ks (m + 1) 1 x8 x9 (nI i) c N O W F top a1 a2 a3 a4 a5 a6 a7 a8 a9 a10 a11 a12 a13 a14 := by
  intro m
  induction m with
  | zero =>
    intro i hi x8 x9 h8 h9 c N O W F top a1 a2 a3 a4 a5 a6 a7 a8 a9 a10 a11 a12 a13 a14 U
    have hi' : i = 6 := by omega
    subst hi'
    rw [show min 6 (n + 1) = n + 1 by omega] at h8 U
    have e9 := h9 (by decide)
    subst e9
    refine pk_le 6 6 (fun _ => ⟨7, ?_⟩) (fun z => absurd z (by omega))
    exact mx_w208 hs hn hl h8 hp U 6 0 (by omega) (by rw [show n + 1 - 6 = 0 by omega]; rfl)
  | succ m ih =>
    intro i hi x8 x9 h8 h9 c N O W F top a1 a2 a3 a4 a5 a6 a7 a8 a9 a10 a11 a12 a13 a14 U
    refine pk_le 6 i (fun z => absurd z (by omega)) (fun _ => ⟨by decide, nm_e ?_⟩)
    refine pk_le (n + 1) i (fun z => nm_r (nI_1 i) ?_) (fun z => br_f (by decide) ?_)
    · rw [show min i (n + 1) = n + 1 by omega] at h8 U
      refine ih (i + 1) (by omega) x8 x9 ?_ (fun _ => h9 (by omega)) _ _ _ _ _ _ _ _ _ _ _ _ _ _ _ _ _ _ _ _ ?_
      · rw [show min (i + 1) (n + 1) = n + 1 by omega]
        exact h8
      · rw [show min (i + 1) (n + 1) = n + 1 by omega]
        exact U
    · rw [show min i (n + 1) = i by omega] at h8 U
      have hJ := ih (i + 1) (by omega) (mx_vv (mx_d x0) (i + 1)) (mx_d x0 0) (by rw [show min (i + 1) (n + 1) = i + 1 by omega]) (fun _ => rfl)
      rw [show min (i + 1) (n + 1) = i + 1 by omega] at hJ
      refine pk_eq i 0 (fun e => ?_) (fun e => ?_)
      · subst e
        exact mx_w143 (tx := []) (by omega) rfl rfl h8 h9 hJ U
      · obtain ⟨k, rfl⟩ : ∃ k, i = k + 1 := ⟨i - 1, by omega⟩
        have hk := mx_tN_l (mx_d x0) k
        refine mx_token U (by decide) (by decide) (by omega) (fun u U => ?_)
        obtain ⟨c, N, O, W, F, top, a1, a2, a3, a4, a5, a6, a7, a8, a9, a10, a11, a12, a13, a14⟩ := u
        refine br_t ?_ (mx_w143 (tx := mx_tN (mx_d x0) (k + 1) ++ [17]) (by omega) (by rw [mx_len, hk]; omega) ?_ h8 h9 hJ U)
        · rw [hk]
          show nI (2 * k + 1 + 1) = nI 2 * nI (k + 1)
          rw [pk_mul, show 2 * k + 1 + 1 = 2 * (k + 1) by omega]
        · rw [mx_tN_s _ (show k + 1 ≠ 0 by omega), List.append_assoc]
          rfl
/-- the constructor's tables -/
def mx_i2 (j : Nat) : Int32 := if j < 6 then nI (j / 2) else nI (j - 3)
theorem mx_fill {f s : Nat → Int32} {i k : Nat} {x : Int32} (hk : k = i) (h : ∀ j, j < i → s j = f j) (hx : x = f i) : ∀ j, j < i + 1 → upd s k x j = f j := by
  intro j hj
  rw [hk]
  by_cases e : j = i
  · rw [e, pk_us, hx]
  · rw [pk_un e]
    exact h j (by omega)
theorem mx_i143 {post : St2 → Prop} {mc ms kc ks : Nat} {i : Nat} {e : Int32} {J : Int32 → (Nat → Int32) → (Nat → Int32) → (Nat → Int32) → (Nat → Int32) → (Nat → Int32) → (Nat → Int32) → (Nat → Int32) → (Nat → Int32) → (Nat → Int32) → (Nat → Int32) → (Nat → Int32) → (Nat → Int32) → (Nat → Int32) → (Nat → Int32) → Prop} {c N O W F top : Int32} {a1 a2 a3 a4 a5 a6 a7 a8 a9 a10 a11 a12 a13 a14 : Nat → Int32}
    (hi : i < 8) (he : e = mx_i2 i) (h2 : ∀ j, j < i → a2 j = mx_i2 j) (h3 : ∀ j, j < i → a3 j = nI (j % 4))
    (hJ : ∀ b2 b3 : Nat → Int32, (∀ j, j < i + 1 → b2 j = mx_i2 j) → (∀ j, j < i + 1 → b3 j = nI (j % 4)) → J (nI (i + 1)) a1 b2 b3 a4 a5 a6 a7 a8 a9 a10 a11 a12 a13 a14) : wX_init_143 post mc ms J (nI i) e (nI i) kc ks c N O W F top a1 a2 a3 a4 a5 a6 a7 a8 a9 a10 a11 a12 a13 a14 := by
  refine ⟨pk_in i 8 hi, nm_e ⟨pk_in i 8 hi, nm_e (nm_r (nI_1 i) (hJ _ _ ?_ ?_))⟩⟩
  · exact mx_fill (nI_clamp (by omega)) h2 he
  · exact mx_fill (nI_clamp (by omega)) h3 (pk_andN (n := i) (by omega) (m := 3) 2 (by decide))
theorem mx_i117 {post : St2 → Prop} {mc ms kc ks : Nat} {c N O W F top : Int32} {a1 a4 a5 a6 a7 a8 a9 a10 a11 a12 a13 a14 : Nat → Int32}
    (hp : ∀ a2 a3 : Nat → Int32, (∀ j, j < 8 → a2 j = mx_i2 j) → (∀ j, j < 8 → a3 j = nI (j % 4)) → post (c, N, O, W, F, top, a1, a2, a3, a4, a5, a6, a7, a8, a9, a10, a11, a12, a13, a14)) :
    ∀ (m i : Nat), i + m = 8 → ∀ a2 a3 : Nat → Int32, (∀ j, j < i → a2 j = mx_i2 j) → (∀ j, j < i → a3 j = nI (j % 4)) → wX_init_117 post mc ms kc ks c N O W F top (m + 1) (nI i) a1 a2 a3 a4 a5 a6 a7 a8 a9 a10 a11 a12 a13 a14 := by
  intro m
  induction m with
  | zero =>
    intro i hi a2 a3 h2 h3
    have hi' : i = 8 := by omega
    subst hi'
    exact pk_le 8 8 (fun _ => hp _ _ h2 h3) (fun z => absurd z (by omega))
  | succ m ih =>
    intro i hi a2 a3 h2 h3
    refine pk_le 8 i (fun z => absurd z (by omega)) (fun _ => pk_le 6 i (fun z => ?_) (fun z => ⟨by decide, ?_⟩))
    · refine mx_i143 (by omega) ?_ h2 h3 (fun b2 b3 g2 g3 => ih (i + 1) (by omega) b2 b3 g2 g3)
      unfold mx_i2
      rw [if_neg (by omega)]
      exact pk_sub (b := 3) (by omega)
    · refine mx_i143 (by omega) ?_ h2 h3 (fun b2 b3 g2 g3 => ih (i + 1) (by omega) b2 b3 g2 g3)
      unfold mx_i2
      rw [if_pos (by omega)]
      exact pk_div (d := 2) (by omega) (by decide) (by decide)
theorem mx_RA0 (n : Nat) : mx_RA n (List.replicate n 0) (fun _ => 0) := by
  refine ⟨by rw [List.length_replicate]; exact Nat.le_refl n, fun j h => ?_⟩
  rw [List.getElem_replicate]
theorem mx_init {post : St2 → Prop} {mc ms : Nat} (hc : 14 ≤ mc) (hm : 197 ≤ ms) (hp : ∀ u, mx_U [0, 0, 0, 0, 0] [0, 0, 1, 1, 2, 2, 3, 4] [0, 1, 2, 3, 0, 1, 2, 3] [] u → post u) : wpX_init post mc ms (0, 0, 0, 0, 0, 0) := by
  refine ⟨by omega, by omega, by omega, by omega, by omega, by omega, by omega, by omega, by omega, by omega, by omega, by omega, by omega, by omega, by omega, by omega, by omega, by omega, by omega, by omega, by omega, by omega, by omega, by omega, by omega, by omega, by omega, by omega, 9, ?_⟩
  refine mx_i117 (fun a2 a3 h2 h3 => hp _ ⟨rfl, Nat.zero_le _, mx_RA0 5, ⟨Nat.le_refl 8, fun j h => ?_⟩, ⟨Nat.le_refl 8, fun j h => ?_⟩, mx_nil⟩) 8 0 rfl _ _ (fun j h => absurd h (Nat.not_lt_zero j)) (fun j h => absurd h (Nat.not_lt_zero j))
  · rw [h2 j h]
    have q : ∀ j, (h : j < 8) → mx_i2 j = ([0, 0, 1, 1, 2, 2, 3, 4] : List Int32)[j] := by decide
    exact q j h
  · rw [h3 j h]
    have q : ∀ j, (h : j < 8) → nI (j % 4) = ([0, 1, 2, 3, 0, 1, 2, 3] : List Int32)[j] := by decide
    exact q j h
theorem mx_lawOf {post : Int32 → St0 → Prop} (p0 p1 p2 : Int32) (hp : post 1 ()) : wpL_lawOf post 140 2224 () p0 p1 p2 := by
  refine ⟨by omega, by omega, 14, 197, by omega, by omega, mx_init (Nat.le_refl _) (Nat.le_refl _) (fun u U => ?_)⟩
  obtain ⟨c, N, O, W, F, top, a1, a2, a3, a4, a5, a6, a7, a8, a9, a10, a11, a12, a13, a14⟩ := u
  obtain ⟨j1, hj1, e1⟩ := pk_andE p1 (m := 3) 2 (by decide)
  obtain ⟨j2, hj2, e2⟩ := pk_andE p2 (m := 7) 3 (by decide)
  obtain ⟨j3, hj3, e3⟩ := pk_andE (p1 >>> ((2 : Int32) &&& 31)) (m := 1) 1 (by decide)
  have hs : j1 % 3 < 3 := by omega
  have hn : j2 % 6 < 6 := by omega
  have f1 : (p1 &&& 3) - (p1 &&& 3) / 3 * 3 = nI (j1 % 3) := by
    rw [e1]
    exact pk_rem (d := 3) (by omega) (by decide) (by decide)
  have f2 : 1 + ((p2 &&& 7) - (p2 &&& 7) / 6 * 6) = nI (j2 % 6 + 1) := by
    rw [e2]
    have q : nI j2 - nI j2 / 6 * 6 = nI (j2 % 6) := pk_rem (d := 6) (by omega) (by decide) (by decide)
    rw [q]
    show nI 1 + nI (j2 % 6) = _
    rw [nI_add, Nat.add_comm]
  have hl : mx_dg (nI j3) := ⟨j3, by omega, rfl⟩
  refine ⟨by decide, nm_r f1 ⟨by decide, nm_r f2 (nm_r e3 ?_)⟩⟩
  refine mx_level (i := 0) U (by decide) (by decide) (nI_pos (by omega)) (nI_le (b := 4) (by omega) (by decide)) (fun u U => ?_)
  obtain ⟨c, N, O, W, F, top, a1, a2, a3, a4, a5, a6, a7, a8, a9, a10, a11, a12, a13, a14⟩ := u
  refine br_t rfl (mx_operator (i := 7) U (by decide) (by decide) (by decide) (by decide) (by decide) (by decide) (fun u U => ?_))
  obtain ⟨c, N, O, W, F, top, a1, a2, a3, a4, a5, a6, a7, a8, a9, a10, a11, a12, a13, a14⟩ := u
  refine br_t rfl (mx_level (i := 4) U (by decide) (Nat.le_refl 5) (by decide) (by decide) (fun u U => ?_))
  obtain ⟨c, N, O, W, F, top, a1, a2, a3, a4, a5, a6, a7, a8, a9, a10, a11, a12, a13, a14⟩ := u
  refine br_t rfl (mx_operator (i := 6) U (by decide) (by decide) (by decide) (by decide) (by decide) (by decide) (fun u U => ?_))
  obtain ⟨c, N, O, W, F, top, a1, a2, a3, a4, a5, a6, a7, a8, a9, a10, a11, a12, a13, a14⟩ := u
  refine br_t rfl ⟨7, ?_⟩
  exact mx_w92 (s := j1 % 3) (n := j2 % 6) hs hn hl hp 6 0 rfl 0 0 (by rw [Nat.zero_min]; rfl) (fun z => absurd rfl z) _ _ _ _ _ _ _ _ _ _ _ _ _ _ _ _ _ _ _ _ (by rw [Nat.zero_min]; exact U)
end
section
theorem mx_cell {post : Int32 → Prop} {L : Nat} {xs : Nat → Int32} (hL : L ≤ 3) (i : Nat) (hi : i < 3) (hp : ∀ x, post x) : wpL_cellAt post L xs () (nI i) := by
  exact pk_le L i (fun _ => hp _) (fun z => ⟨pk_in i L z, hp _⟩)
theorem i_vc (xs : Nat → Int32) (L : Nat) (hL : L ≤ 3) : wpL_law (fun r => r = 1) L xs := by
  refine mx_cell hL 0 (by decide) (fun p0 => ?_)
  refine mx_cell hL 1 (by decide) (fun p1 => ?_)
  refine mx_cell hL 2 (by decide) (fun p2 => ?_)
  exact ⟨140, 2224, by omega, by omega, mx_lawOf p0 p1 p2 rfl⟩
end

section
/-- a note's kind as the code writes it: put 0, removed 1 -/
def dt_k : Bool → Int32
  | true => 0
  | false => 1
/-- a boolean as the code writes it -/
def dt_b : Bool → Int32
  | true => 1
  | false => 0
/-- is the key there: the newest note of it decides -/
def dt_has (q : Int32) : List (Bool × Int32 × Int32) → Bool
  | [] => false
  | n :: l => if n.2.1 = q then n.1 else dt_has q l
/-- the value of the newest put of the key -/
def dt_val (q : Int32) : List (Bool × Int32 × Int32) → Int32
  | [] => 0
  | n :: l => if n.1 = true then (if n.2.1 = q then n.2.2 else dt_val q l) else dt_val q l
/-- how many keys are there -/
def dt_cnt : List (Bool × Int32 × Int32) → Nat
  | [] => 0
  | n :: l => if n.1 = true then (if dt_has n.2.1 l = true then dt_cnt l else dt_cnt l + 1) else (if dt_has n.2.1 l = true then dt_cnt l - 1 else dt_cnt l)
/-- the chain of notes, newest first: the note with k older ones lies at place k -/
def dt_ch (a8 a9 a10 a11 : Nat → Int32) : List (Bool × Int32 × Int32) → Int32 → Prop
  | [] => fun x => x = -1
  | n :: l => fun x => x = nI l.length ∧ a8 l.length = dt_k n.1 ∧ a9 l.length = n.2.1 ∧ a10 l.length = n.2.2 ∧ dt_ch a8 a9 a10 a11 l (a11 l.length)
theorem dt_has_c (q : Int32) (k : Bool) (q' v : Int32) (l : List (Bool × Int32 × Int32)) : dt_has q ((k, q', v) :: l) = if q' = q then k else dt_has q l := rfl
theorem dt_val_t (q q' v : Int32) (l : List (Bool × Int32 × Int32)) : dt_val q ((true, q', v) :: l) = if q' = q then v else dt_val q l := rfl
theorem dt_val_f (q q' v : Int32) (l : List (Bool × Int32 × Int32)) : dt_val q ((false, q', v) :: l) = dt_val q l := rfl
theorem dt_cnt_t (q v : Int32) (l : List (Bool × Int32 × Int32)) : dt_cnt ((true, q, v) :: l) = if dt_has q l = true then dt_cnt l else dt_cnt l + 1 := rfl
theorem dt_cnt_f (q v : Int32) (l : List (Bool × Int32 × Int32)) : dt_cnt ((false, q, v) :: l) = if dt_has q l = true then dt_cnt l - 1 else dt_cnt l := rfl
theorem dt_c0 : (0 : Int32).toNatClampNeg = 0 := by decide
theorem dt_cnt_le (l : List (Bool × Int32 × Int32)) : dt_cnt l ≤ l.length := by
  induction l with
  | nil => exact Nat.le_refl 0
  | cons n l ih =>
    obtain ⟨k, q, v⟩ := n
    rw [List.length_cons]
    cases k
    · rw [dt_cnt_f]
      split <;> omega
    · rw [dt_cnt_t]
      split <;> omega
theorem dt_ch_upd {a8 a9 a10 a11 : Nat → Int32} {k : Nat} {y8 y9 y10 y11 : Int32} (l : List (Bool × Int32 × Int32)) : ∀ x, l.length ≤ k → dt_ch a8 a9 a10 a11 l x → dt_ch (upd a8 k y8) (upd a9 k y9) (upd a10 k y10) (upd a11 k y11) l x := by
  induction l with
  | nil => intro x _ h; exact h
  | cons n l ih =>
    intro x hk h
    rw [List.length_cons] at hk
    obtain ⟨e, h8, h9, h10, h11⟩ := h
    have ne : l.length ≠ k := by omega
    refine ⟨e, ?_, ?_, ?_, ?_⟩
    · rw [pk_un ne]; exact h8
    · rw [pk_un ne]; exact h9
    · rw [pk_un ne]; exact h10
    · rw [pk_un ne]; exact ih _ (by omega) h11
theorem dt_k2 (b : Bool) : ¬ dt_k b = 2 := by cases b <;> decide
theorem dt_kt : dt_k true = 0 := rfl
theorem dt_kf : ¬ dt_k false = 0 := by decide
/-- the gathered keys: in order, all of them keys, and just those that are there -/
def dt_G (m : List (Bool × Int32 × Int32)) (c : Nat) (g : Nat → Int32) : Prop :=
  c = dt_cnt m ∧ (∀ i j, i < j → j < c → g i < g j) ∧ (∀ j, j < c → 0 ≤ g j ∧ g j ≤ 4095) ∧ (∀ q, dt_has q m = true ↔ ∃ j, j < c ∧ g j = q)
theorem dt_G0 (g : Nat → Int32) : dt_G [] 0 g :=
  ⟨rfl, fun i j _ h => absurd h (by omega), fun j h => absurd h (by omega), fun q => ⟨fun z => absurd z Bool.false_ne_true, fun ⟨j, h, _⟩ => absurd h (by omega)⟩⟩
theorem dt_lt {x y : Int32} : x < y ↔ x.toInt < y.toInt := Int32.lt_iff_toInt_lt
theorem dt_le {x y : Int32} : x ≤ y ↔ x.toInt ≤ y.toInt := Int32.le_iff_toInt_le
theorem dt_eq {x y : Int32} : x = y ↔ x.toInt = y.toInt := Int32.toInt_inj.symm
/-- the place of a key among the gathered ones -/
theorem dt_pos (g : Nat → Int32) (q : Int32) (c : Nat) (hs : ∀ i j, i < j → j < c → g i < g j) : ∃ p, p ≤ c ∧ (∀ j, j < p → g j < q) ∧ (∀ j, p ≤ j → j < c → q ≤ g j) := by
  induction c with
  | zero => exact ⟨0, Nat.le_refl 0, fun j h => absurd h (by omega), fun j _ h => absurd h (by omega)⟩
  | succ c ih =>
    obtain ⟨p, h1, h2, h3⟩ := ih (fun i j a b => hs i j a (by omega))
    by_cases e : p = c ∧ g c < q
    · refine ⟨c + 1, Nat.le_refl _, fun j hj => ?_, fun j a b => absurd b (by omega)⟩
      by_cases ej : j = c
      · rw [ej]; exact e.2
      · exact h2 j (by omega)
    · refine ⟨p, by omega, h2, fun j a b => ?_⟩
      by_cases ej : j < c
      · exact h3 j a ej
      · have ej' : j = c := by omega
        rw [ej']
        by_cases ep : p = c
        · rcases Int32.not_lt.mp (fun z => e ⟨ep, z⟩) with z
          exact z
        · have t := h3 p (Nat.le_refl p) (by omega)
          have t2 := hs p c (by omega) (by omega)
          rw [dt_le] at *
          rw [dt_lt] at t2
          omega
theorem dt_there {m : List (Bool × Int32 × Int32)} {c : Nat} {g : Nat → Int32} {q : Int32} {p : Nat} (h : dt_G m c g) (h2 : ∀ j, j < p → g j < q) (h3 : ∀ j, p ≤ j → j < c → q ≤ g j) : dt_has q m = true ↔ p < c ∧ g p = q := by
  obtain ⟨_, hs, _, hq⟩ := h
  rw [hq q]
  constructor
  · intro ⟨j, hj, e⟩
    have np : p ≤ j := by
      rcases Nat.lt_or_ge j p with z | z
      · have t := h2 j z
        rw [e] at t
        exact absurd t Int32.lt_irrefl
      · exact z
    rcases Nat.lt_or_ge p j with z | z
    · have t := hs p j z hj
      have t2 := h3 p (Nat.le_refl p) (by omega)
      rw [e] at t
      rw [dt_lt] at t
      rw [dt_le] at t2
      omega
    · have ej : j = p := by omega
      rw [ej] at hj e
      exact ⟨hj, e⟩
  · intro ⟨a, b⟩
    exact ⟨p, a, b⟩
/-- a put of a key that is there -/
theorem dt_Gp {m : List (Bool × Int32 × Int32)} {c : Nat} {g : Nat → Int32} {q v : Int32} {p : Nat} (h : dt_G m c g) (hp : p < c) (e : g p = q) : dt_G ((true, q, v) :: m) c (upd g p q) := by
  have hu : upd g p q = g := by
    funext j
    by_cases ej : j = p
    · rw [ej, pk_us, e]
    · rw [pk_un ej]
  rw [hu]
  obtain ⟨hc, hs, hr, hq⟩ := h
  have ht : dt_has q m = true := (hq q).mpr ⟨p, hp, e⟩
  refine ⟨?_, hs, hr, fun q' => ?_⟩
  · rw [dt_cnt_t, if_pos ht]
    exact hc
  · rw [dt_has_c]
    by_cases eq : q = q'
    · rw [if_pos eq]
      exact ⟨fun _ => ⟨p, hp, by rw [e, eq]⟩, fun _ => rfl⟩
    · rw [if_neg eq]
      exact hq q'
/-- a put of a key that isn't there -/
theorem dt_Gi {m : List (Bool × Int32 × Int32)} {c : Nat} {g s : Nat → Int32} {q v : Int32} {p : Nat} (h : dt_G m c g) (h0 : 0 ≤ q ∧ q ≤ 4095) (hp : p ≤ c) (h2 : ∀ j, j < p → g j < q) (h3 : ∀ j, p ≤ j → j < c → q ≤ g j) (ht : ¬ dt_has q m = true)
    (s1 : ∀ j, j < p → s j = g j) (s2 : ∀ j, p ≤ j → j < c → s (j + 1) = g j) : dt_G ((true, q, v) :: m) (c + 1) (upd s p q) := by
  obtain ⟨hc, hs, hr, hq⟩ := h
  have h3' : ∀ j, p ≤ j → j < c → q < g j := by
    intro j a b
    exact Int32.lt_of_le_of_ne (h3 j a b) (fun z => ht ((hq q).mpr ⟨j, b, z.symm⟩))
  have t1 : ∀ j, j < p → upd s p q j = g j := fun j hj => by rw [pk_un (by omega)]; exact s1 j hj
  have t2 : ∀ j, p < j → j ≤ c → upd s p q j = g (j - 1) := fun j hj hjc => by
    rw [pk_un (by omega)]
    have t := s2 (j - 1) (by omega) (by omega)
    rw [show j - 1 + 1 = j by omega] at t
    exact t
  have t0 : upd s p q p = q := pk_us
  refine ⟨?_, fun i j a b => ?_, fun j hj => ?_, fun q' => ?_⟩
  · rw [dt_cnt_t, if_neg ht, hc]
  · rcases Nat.lt_trichotomy i p with zi | zi | zi
    · rw [t1 i zi]
      rcases Nat.lt_trichotomy j p with zj | zj | zj
      · rw [t1 j zj]; exact hs i j a (by omega)
      · rw [zj, t0]; exact h2 i zi
      · rw [t2 j zj (by omega)]; exact hs i (j - 1) (by omega) (by omega)
    · rw [zi, t0, t2 j (by omega) (by omega)]
      exact h3' (j - 1) (by omega) (by omega)
    · rw [t2 i zi (by omega), t2 j (by omega) (by omega)]
      exact hs (i - 1) (j - 1) (by omega) (by omega)
  · rcases Nat.lt_trichotomy j p with zj | zj | zj
    · rw [t1 j zj]; exact hr j (by omega)
    · rw [zj, t0]; exact h0
    · rw [t2 j zj (by omega)]; exact hr (j - 1) (by omega)
  · rw [dt_has_c]
    by_cases eq : q = q'
    · rw [if_pos eq]
      exact ⟨fun _ => ⟨p, by omega, by rw [t0, eq]⟩, fun _ => rfl⟩
    · rw [if_neg eq, hq q']
      constructor
      · intro ⟨j, hj, ej⟩
        rcases Nat.lt_or_ge j p with z | z
        · exact ⟨j, by omega, by rw [t1 j z]; exact ej⟩
        · exact ⟨j + 1, by omega, by rw [t2 (j + 1) (by omega) (by omega)]; exact ej⟩
      · intro ⟨j, hj, ej⟩
        rcases Nat.lt_trichotomy j p with zj | zj | zj
        · exact ⟨j, by omega, by rw [← t1 j zj]; exact ej⟩
        · rw [zj, t0] at ej; exact absurd ej eq
        · exact ⟨j - 1, by omega, by rw [← t2 j zj (by omega)]; exact ej⟩
/-- a removal of a key that is there -/
theorem dt_Gd {m : List (Bool × Int32 × Int32)} {c : Nat} {g s : Nat → Int32} {q v : Int32} {p : Nat} (h : dt_G m (c + 1) g) (hp : p < c + 1) (e : g p = q)
    (s1 : ∀ j, j < p → s j = g j) (s2 : ∀ j, p ≤ j → j < c → s j = g (j + 1)) : dt_G ((false, q, v) :: m) c s := by
  obtain ⟨hc, hs, hr, hq⟩ := h
  have ht : dt_has q m = true := (hq q).mpr ⟨p, hp, e⟩
  have inj : ∀ j, j < c + 1 → g j = q → j = p := by
    intro j hj ej
    rcases Nat.lt_trichotomy j p with z | z | z
    · have t := hs j p z hp
      rw [ej, e] at t
      exact absurd t Int32.lt_irrefl
    · exact z
    · have t := hs p j z hj
      rw [ej, e] at t
      exact absurd t Int32.lt_irrefl
  refine ⟨?_, fun i j a b => ?_, fun j hj => ?_, fun q' => ?_⟩
  · rw [dt_cnt_f, if_pos ht, ← hc]
    rfl
  · rcases Nat.lt_or_ge i p with zi | zi
    · rw [s1 i zi]
      rcases Nat.lt_or_ge j p with zj | zj
      · rw [s1 j zj]; exact hs i j a (by omega)
      · rw [s2 j zj b]; exact hs i (j + 1) (by omega) (by omega)
    · rw [s2 i zi (by omega), s2 j (by omega) b]
      exact hs (i + 1) (j + 1) (by omega) (by omega)
  · rcases Nat.lt_or_ge j p with zj | zj
    · rw [s1 j zj]; exact hr j (by omega)
    · rw [s2 j zj hj]; exact hr (j + 1) (by omega)
  · rw [dt_has_c]
    by_cases eq : q = q'
    · rw [if_pos eq]
      refine ⟨fun z => absurd z (by decide), fun ⟨j, hj, ej⟩ => ?_⟩
      rcases Nat.lt_or_ge j p with z | z
      · rw [s1 j z, ← eq] at ej
        have t := inj j (by omega) ej
        omega
      · rw [s2 j z hj, ← eq] at ej
        have t := inj (j + 1) (by omega) ej
        omega
    · rw [if_neg eq, hq q']
      constructor
      · intro ⟨j, hj, ej⟩
        rcases Nat.lt_trichotomy j p with z | z | z
        · exact ⟨j, by omega, by rw [s1 j z]; exact ej⟩
        · rw [z, e] at ej; exact absurd ej eq
        · refine ⟨j - 1, by omega, ?_⟩
          rw [s2 (j - 1) (by omega) (by omega), show j - 1 + 1 = j by omega]
          exact ej
      · intro ⟨j, hj, ej⟩
        rcases Nat.lt_or_ge j p with z | z
        · exact ⟨j, by omega, by rw [← s1 j z]; exact ej⟩
        · exact ⟨j + 1, by omega, by rw [← s2 j z hj]; exact ej⟩
/-- a removal of a key that isn't there -/
theorem dt_Gn {m : List (Bool × Int32 × Int32)} {c : Nat} {g : Nat → Int32} {q v : Int32} (h : dt_G m c g) (ht : ¬ dt_has q m = true) : dt_G ((false, q, v) :: m) c g := by
  obtain ⟨hc, hs, hr, hq⟩ := h
  refine ⟨?_, hs, hr, fun q' => ?_⟩
  · rw [dt_cnt_f, if_neg ht]
    exact hc
  · rw [dt_has_c]
    by_cases eq : q = q'
    · rw [if_pos eq]
      refine ⟨fun z => absurd z (by decide), fun z => ?_⟩
      have t := (hq q').mpr z
      rw [← eq] at t
      exact absurd t ht
    · rw [if_neg eq]
      exact hq q'
theorem dt_Gx (l : List (Bool × Int32 × Int32)) (hk : ∀ n, n ∈ l → 0 ≤ n.2.1 ∧ n.2.1 ≤ 4095) : ∃ g, dt_G l (dt_cnt l) g := by
  induction l with
  | nil => exact ⟨fun _ => 0, dt_G0 _⟩
  | cons n l ih =>
    obtain ⟨g, hg⟩ := ih (fun n hn => hk n (List.mem_cons_of_mem _ hn))
    have h0 := hk n (List.mem_cons_self ..)
    obtain ⟨k, q, v⟩ := n
    obtain ⟨p, p1, p2, p3⟩ := dt_pos g q (dt_cnt l) hg.2.1
    have pt := dt_there hg p2 p3
    by_cases ht : dt_has q l = true
    · obtain ⟨t1, t2⟩ := pt.mp ht
      cases k
      · rw [dt_cnt_f, if_pos ht]
        have hg' : dt_G l (dt_cnt l - 1 + 1) g := by
          rw [show dt_cnt l - 1 + 1 = dt_cnt l by omega]
          exact hg
        refine ⟨fun j => if j < p then g j else g (j + 1), dt_Gd hg' (by omega) t2 (fun j hj => if_pos hj) (fun j hj _ => if_neg (by omega))⟩
      · rw [dt_cnt_t, if_pos ht]
        exact ⟨_, dt_Gp hg t1 t2⟩
    · cases k
      · rw [dt_cnt_f, if_neg ht]
        exact ⟨g, dt_Gn hg ht⟩
      · rw [dt_cnt_t, if_neg ht]
        refine ⟨_, dt_Gi (s := fun j => if j < p then g j else g (j - 1)) hg h0 p1 p2 p3 ht (fun j hj => if_pos hj) (fun j hj _ => ?_)⟩
        show (if j + 1 < p then g (j + 1) else g (j + 1 - 1)) = g j
        rw [if_neg (by omega), show j + 1 - 1 = j by omega]
theorem dt_cnt_pos {l : List (Bool × Int32 × Int32)} {q : Int32} (hk : ∀ n, n ∈ l → 0 ≤ n.2.1 ∧ n.2.1 ≤ 4095) (h : dt_has q l = true) : 0 < dt_cnt l := by
  obtain ⟨g, hg⟩ := dt_Gx l hk
  obtain ⟨j, hj, _⟩ := (hg.2.2.2 q).mp h
  omega
/-- a removal: noted only if the key is there -/
def dt_rm (q : Int32) (l : List (Bool × Int32 × Int32)) : List (Bool × Int32 × Int32) := if dt_has q l = true then (false, q, 0) :: l else l
/-- what get answers -/
def dt_gv (q : Int32) (l : List (Bool × Int32 × Int32)) : Int32 := if dt_has q l = true then dt_val q l else 0
theorem dt_nb : ∀ k : Bool, vp_nar .boolean (dt_b k) = dt_b k := by
  intro k
  cases k <;> rfl
theorem dt_nr : ∀ k : Bool, narrow .boolean (.int (dt_b k)) = .int (dt_b k) := by
  intro k
  cases k <;> rfl
theorem dt_nlt {q : Int32} (h : 0 ≤ q) : ¬ q < 0 := Int32.not_lt.mpr h
end
section
/-- the object's state: one page, its chain holds the notes l; e entries; t staged changes in the arrays b19, b20, b21 -/
def dt_S (l : List (Bool × Int32 × Int32)) (e t : Int32) (b19 b20 b21 : Nat → Int32) (u : St2) : Prop := match u with
  | (en, fr, ic, il, ix, ga, ge, st, a1, a2, a3, a4, a5, a6, a7, a8, a9, a10, a11, a12, a13, a14, a15, a16, a17, a18, a19, a20, a21) => dt_ch a8 a9 a10 a11 l (a2 0) ∧ (∀ n, n ∈ l → 0 ≤ n.2.1 ∧ n.2.1 ≤ 4095) ∧ en = e ∧ fr = nI l.length ∧ ic = -1 ∧ ix = 1 ∧ a3 0 = nI l.length ∧ a4 0 = 0 ∧ a7 0 = 4096 ∧ a13 0 = 0 ∧ (∀ j, l.length ≤ j → j < 159 → a11 j = nI (j + 1)) ∧ st = t ∧ a19 = b19 ∧ a20 = b20 ∧ a21 = b21
theorem dt_Sm {l : List (Bool × Int32 × Int32)} {e t : Int32} {b19 b20 b21 : Nat → Int32} {en fr ic il ix ga ge st : Int32} {a1 a2 a3 a4 a5 a6 a7 a8 a9 a10 a11 a12 a13 a14 a15 a16 a17 a18 a19 a20 a21 : Nat → Int32} (h1 : dt_ch a8 a9 a10 a11 l (a2 0)) (h2 : ∀ n, n ∈ l → 0 ≤ n.2.1 ∧ n.2.1 ≤ 4095) (h3 : en = e) (h4 : fr = nI l.length) (h5 : ic = -1) (h6 : ix = 1) (h7 : a3 0 = nI l.length) (h8 : a4 0 = 0) (h9 : a7 0 = 4096) (h10 : a13 0 = 0) (h11 : ∀ j, l.length ≤ j → j < 159 → a11 j = nI (j + 1)) (h12 : st = t) (h13 : a19 = b19) (h14 : a20 = b20) (h15 : a21 = b21) :
    dt_S l e t b19 b20 b21 (en, fr, ic, il, ix, ga, ge, st, a1, a2, a3, a4, a5, a6, a7, a8, a9, a10, a11, a12, a13, a14, a15, a16, a17, a18, a19, a20, a21) := ⟨h1, h2, h3, h4, h5, h6, h7, h8, h9, h10, h11, h12, h13, h14, h15⟩
section
variable {en fr ic il ix ga ge st : Int32} {a1 a2 a3 a4 a5 a6 a7 a8 a9 a10 a11 a12 a13 a14 a15 a16 a17 a18 a19 a20 a21 : Nat → Int32}
theorem dt_base {post : Int32 → Prop} {q : Int32} (h4 : a4 0 = 0) (H : post (-1)) : wpX_placeInBase post (en, fr, ic, il, ix, ga, ge, st, a1, a2, a3, a4, a5, a6, a7, a8, a9, a10, a11, a12, a13, a14, a15, a16, a17, a18, a19, a20, a21) 0 q := by
  have e : (12 : Int32) * 0 + a4 (0 : Int32).toNatClampNeg = 0 := by
    rw [dt_c0, h4]
    decide
  exact nm_r (e' := 0) (by decide) ⟨pk_in 0 24 (by omega), nm_r (e' := 0) e ⟨1, br_f (by decide) (br_t (by decide) ⟨pk_in 0 24 (by omega), br_t (by rw [e]; decide) H⟩)⟩⟩
theorem dt_div7 {post : Int32 → Prop} (hp : post (-1)) (l : List (Bool × Int32 × Int32)) : ∀ x, dt_ch a8 a9 a10 a11 l x → l.length ≤ 100 → wX_divisionOf_7 post en fr ic il ix ga ge st a1 a2 a3 a4 a5 a6 a7 a8 a9 a10 a11 a12 a13 a14 a15 a16 a17 a18 a19 a20 a21 (l.length + 1) x := by
  induction l with
  | nil =>
    intro x h _
    have e : x = -1 := h
    exact br_t (by rw [e]; decide) hp
  | cons n l ih =>
    intro x h hl
    rw [List.length_cons] at hl
    obtain ⟨e, h8, h9, h10, h11⟩ := h
    subst e
    have c : (nI l.length).toNatClampNeg = l.length := nI_clamp (by omega)
    exact br_f (nI_pos (by omega)) ⟨pk_in l.length 160 (by omega), br_f (by rw [c, h8]; exact dt_k2 _) ⟨pk_in l.length 160 (by omega), nm_r (by rw [c]) (ih _ h11 (by omega))⟩⟩
theorem dt_isIn7 {post : Int32 → Prop} {q : Int32} (h4 : a4 0 = 0) (l : List (Bool × Int32 × Int32)) : ∀ x, dt_ch a8 a9 a10 a11 l x → l.length ≤ 100 → post (dt_b (dt_has q l)) → wX_isIn_7 post 0 q en fr ic il ix ga ge st a1 a2 a3 a4 a5 a6 a7 a8 a9 a10 a11 a12 a13 a14 a15 a16 a17 a18 a19 a20 a21 (l.length + 1) x := by
  induction l with
  | nil =>
    intro x h _ hp
    have e : x = -1 := h
    exact br_t (by rw [e]; decide) (dt_base h4 (br_t (by decide) hp))
  | cons n l ih =>
    intro x h hl hp
    obtain ⟨k, q', v⟩ := n
    rw [List.length_cons] at hl
    obtain ⟨e, h8, h9, h10, h11⟩ := h
    subst e
    dsimp only at h8 h9
    have c : (nI l.length).toNatClampNeg = l.length := nI_clamp (by omega)
    rw [dt_has_c] at hp
    refine br_f (nI_pos (by omega)) ⟨pk_in l.length 160 (by omega), br_f (by rw [c, h8]; exact dt_k2 _) ⟨pk_in l.length 160 (by omega), br_c (fun z => ⟨pk_in l.length 160 (by omega), ?_⟩) (fun z => ⟨pk_in l.length 160 (by omega), nm_r (by rw [c]) (ih _ h11 (by omega) ?_)⟩)⟩⟩
    · rw [c, h9] at z
      rw [if_pos z] at hp
      cases k
      · exact br_f (by rw [c, h8]; exact dt_kf) hp
      · exact br_t (by rw [c, h8]; exact dt_kt) hp
    · rw [c, h9] at z
      rw [if_neg z] at hp
      exact hp
theorem dt_val7 {post : Int32 → Prop} {q : Int32} (h4 : a4 0 = 0) (l : List (Bool × Int32 × Int32)) : ∀ x, dt_ch a8 a9 a10 a11 l x → l.length ≤ 100 → post (dt_val q l) → wX_valueIn_7 post 0 q en fr ic il ix ga ge st a1 a2 a3 a4 a5 a6 a7 a8 a9 a10 a11 a12 a13 a14 a15 a16 a17 a18 a19 a20 a21 (l.length + 1) x := by
  induction l with
  | nil =>
    intro x h _ hp
    have e : x = -1 := h
    exact br_t (by rw [e]; decide) (dt_base h4 (br_f (by decide) hp))
  | cons n l ih =>
    intro x h hl hp
    obtain ⟨k, q', v⟩ := n
    rw [List.length_cons] at hl
    obtain ⟨e, h8, h9, h10, h11⟩ := h
    subst e
    dsimp only at h8 h9 h10
    have c : (nI l.length).toNatClampNeg = l.length := nI_clamp (by omega)
    refine br_f (nI_pos (by omega)) ⟨pk_in l.length 160 (by omega), ?_⟩
    cases k
    · rw [dt_val_f] at hp
      exact br_f (by rw [c, h8]; exact dt_kf) ⟨pk_in l.length 160 (by omega), nm_r (by rw [c]) (ih _ h11 (by omega) hp)⟩
    · rw [dt_val_t] at hp
      refine br_t (by rw [c, h8]; exact dt_kt) ⟨pk_in l.length 160 (by omega), br_c (fun z => ⟨pk_in l.length 160 (by omega), ?_⟩) (fun z => ⟨pk_in l.length 160 (by omega), nm_r (by rw [c]) (ih _ h11 (by omega) ?_)⟩)⟩
      · rw [c, h9] at z
        rw [if_pos z] at hp
        rw [c, h10]
        exact hp
      · rw [c, h9] at z
        rw [if_neg z] at hp
        exact hp
end
theorem dt_page {post : Int32 → St2 → Prop} {u : St2} {l : List (Bool × Int32 × Int32)} {e t q : Int32} {b19 b20 b21 : Nat → Int32} (h : dt_S l e t b19 b20 b21 u) (hl : l.length ≤ 100) (H : post 0 u) : wpX_pageFor post u q := by
  obtain ⟨en, fr, ic, il, ix, ga, ge, st, a1, a2, a3, a4, a5, a6, a7, a8, a9, a10, a11, a12, a13, a14, a15, a16, a17, a18, a19, a20, a21⟩ := u
  obtain ⟨h1, h2, h3, h4, h5, h6, h7, h8, h9, h10, h11, h12, h13, h14, h15⟩ := h
  have x1 : ix - 1 = 0 := by rw [h6]; decide
  have x2 : a13 (0 : Int32).toNatClampNeg = 0 := by rw [dt_c0, h10]
  have D : ∀ ψ : Int32 → Prop, ψ (-1) → wpX_divisionOf ψ (en, fr, ic, il, ix, ga, ge, st, a1, a2, a3, a4, a5, a6, a7, a8, a9, a10, a11, a12, a13, a14, a15, a16, a17, a18, a19, a20, a21) 0 := fun ψ hψ => ⟨pk_in 0 24 (by omega), nm_r (by rw [dt_c0]) ⟨l.length + 1, dt_div7 hψ l _ h1 hl⟩⟩
  refine nm_r x1 ⟨1, br_f (by decide) (br_t (by decide) ⟨pk_in 0 24 (by omega), nm_r x2 ?_⟩)⟩
  refine nm_r x1 ⟨1, br_f (by decide) (br_t (by decide) ⟨pk_in 0 24 (by omega), nm_e ⟨1, br_t (by rw [h5]; decide) (D _ ⟨1, br_f (by decide) (br_t (by decide) H)⟩)⟩⟩)⟩
theorem dt_isIn {post : Int32 → Prop} {u : St2} {l : List (Bool × Int32 × Int32)} {e t q : Int32} {b19 b20 b21 : Nat → Int32} (h : dt_S l e t b19 b20 b21 u) (hl : l.length ≤ 100) (H : post (dt_b (dt_has q l))) : wpX_isIn post u 0 q := by
  obtain ⟨en, fr, ic, il, ix, ga, ge, st, a1, a2, a3, a4, a5, a6, a7, a8, a9, a10, a11, a12, a13, a14, a15, a16, a17, a18, a19, a20, a21⟩ := u
  obtain ⟨h1, h2, h3, h4, h5, h6, h7, h8, h9, h10, h11, h12, h13, h14, h15⟩ := h
  exact ⟨pk_in 0 24 (by omega), nm_r (by rw [dt_c0]) ⟨l.length + 1, dt_isIn7 h8 l _ h1 hl H⟩⟩
theorem dt_valueIn {post : Int32 → Prop} {u : St2} {l : List (Bool × Int32 × Int32)} {e t q : Int32} {b19 b20 b21 : Nat → Int32} (h : dt_S l e t b19 b20 b21 u) (hl : l.length ≤ 100) (H : post (dt_val q l)) : wpX_valueIn post u 0 q := by
  obtain ⟨en, fr, ic, il, ix, ga, ge, st, a1, a2, a3, a4, a5, a6, a7, a8, a9, a10, a11, a12, a13, a14, a15, a16, a17, a18, a19, a20, a21⟩ := u
  obtain ⟨h1, h2, h3, h4, h5, h6, h7, h8, h9, h10, h11, h12, h13, h14, h15⟩ := h
  exact ⟨pk_in 0 24 (by omega), nm_r (by rw [dt_c0]) ⟨l.length + 1, dt_val7 h8 l _ h1 hl H⟩⟩
end
section
theorem dt_addNote {post : St2 → Prop} {u : St2} {l : List (Bool × Int32 × Int32)} {e t q v : Int32} {b19 b20 b21 : Nat → Int32} (k : Bool) (h : dt_S l e t b19 b20 b21 u) (hl : l.length ≤ 3) (hq : 0 ≤ q ∧ q ≤ 4095) (H : ∀ u', dt_S ((k, q, v) :: l) e t b19 b20 b21 u' → post u') : wpX_addNote post u 0 (dt_k k) q v := by
  obtain ⟨en, fr, ic, il, ix, ga, ge, st, a1, a2, a3, a4, a5, a6, a7, a8, a9, a10, a11, a12, a13, a14, a15, a16, a17, a18, a19, a20, a21⟩ := u
  obtain ⟨h1, h2, h3, h4, h5, h6, h7, h8, h9, h10, h11, h12, h13, h14, h15⟩ := h
  subst h4
  have c : (nI l.length).toNatClampNeg = l.length := nI_clamp (by omega)
  have V : vp_in (nI l.length) 160 := pk_in l.length 160 (by omega)
  have Z : vp_in (0 : Int32) 24 := pk_in 0 24 (by omega)
  refine ⟨Z, V, nm_r (e' := nI (l.length + 1)) (by rw [c, h11 _ (Nat.le_refl _) (by omega)]) ⟨V, nm_r (e' := upd a8 l.length (dt_k k)) (by rw [c]) ⟨V, nm_r (e' := upd a9 l.length q) (by rw [c]) ⟨V, nm_r (e' := upd a10 l.length v) (by rw [c]) ⟨V, nm_r (e' := upd a11 l.length (a2 0)) (by rw [c, dt_c0]) ?_⟩⟩⟩⟩⟩
  refine ⟨Z, nm_r (e' := upd a2 0 (nI l.length)) (by rw [dt_c0]) ⟨Z, Z, nm_r (e' := upd a3 0 (nI (l.length + 1))) (by rw [dt_c0, h7, nI_1]) ⟨Z, br_t ?_ (H _ ?_)⟩⟩⟩
  · rw [dt_c0, pk_us]
    exact nI_le (b := 4) (by omega) (by omega)
  · refine dt_Sm ?_ ?_ h3 rfl h5 h6 ?_ h8 h9 h10 ?_ h12 h13 h14 h15
    · refine ⟨pk_us, pk_us, pk_us, pk_us, ?_⟩
      rw [pk_us]
      exact dt_ch_upd l _ (Nat.le_refl _) h1
    · intro n hn
      rcases List.mem_cons.mp hn with z | z
      · rw [z]; exact hq
      · exact h2 n z
    · rw [pk_us, List.length_cons]
    · intro j hj hj2
      rw [List.length_cons] at hj
      rw [pk_un (by omega)]
      exact h11 j (by omega) hj2
/-- the same state, another number of entries -/
theorem dt_Se {l : List (Bool × Int32 × Int32)} {e e' t : Int32} {b19 b20 b21 : Nat → Int32} {en fr ic il ix ga ge st : Int32} {a1 a2 a3 a4 a5 a6 a7 a8 a9 a10 a11 a12 a13 a14 a15 a16 a17 a18 a19 a20 a21 : Nat → Int32} (h : dt_S l e t b19 b20 b21 (en, fr, ic, il, ix, ga, ge, st, a1, a2, a3, a4, a5, a6, a7, a8, a9, a10, a11, a12, a13, a14, a15, a16, a17, a18, a19, a20, a21)) : dt_S l e' t b19 b20 b21 (e', fr, ic, il, ix, ga, ge, st, a1, a2, a3, a4, a5, a6, a7, a8, a9, a10, a11, a12, a13, a14, a15, a16, a17, a18, a19, a20, a21) := by
  obtain ⟨h1, h2, h3, h4, h5, h6, h7, h8, h9, h10, h11, h12, h13, h14, h15⟩ := h
  exact dt_Sm h1 h2 rfl h4 h5 h6 h7 h8 h9 h10 h11 h12 h13 h14 h15
theorem dt_put {post : Int32 → St2 → Prop} {u : St2} {l : List (Bool × Int32 × Int32)} {t q v : Int32} {b19 b20 b21 : Nat → Int32} (h : dt_S l (nI (dt_cnt l)) t b19 b20 b21 u) (hl : l.length ≤ 3) (hq : 0 ≤ q ∧ q ≤ 4095) (H : ∀ r u', dt_S ((true, q, v) :: l) (nI (dt_cnt ((true, q, v) :: l))) t b19 b20 b21 u' → post r u') : wpX_put post u q v := by
  have hc := dt_cnt_le l
  obtain ⟨en, fr, ic, il, ix, ga, ge, st, a1, a2, a3, a4, a5, a6, a7, a8, a9, a10, a11, a12, a13, a14, a15, a16, a17, a18, a19, a20, a21⟩ := u
  have he : en = nI (dt_cnt l) := h.2.2.1
  refine br_f (dt_nlt hq.1) (br_f (Int32.not_lt.mpr hq.2) (br_f (by decide) (dt_page h (by omega) (dt_isIn h (by omega) ?_))))
  rw [dt_cnt_t] at H
  cases hb : dt_has q l
  · rw [hb, if_neg (by decide)] at H
    refine br_t rfl (br_t ?_ (br_t rfl (nm_r (e' := nI (dt_cnt l + 1)) ?_ (dt_addNote true (dt_Se h) hl hq ?_))))
    · rw [he]; exact nI_lt (b := 60) (by omega) (by omega)
    · rw [he, nI_1]
    · intro u' hu'
      obtain ⟨en1, fr1, ic1, il1, ix1, ga1, ge1, st1, a11, a21, a31, a41, a51, a61, a71, a81, a91, a101, a111, a121, a131, a141, a151, a161, a171, a181, a191, a201, a211⟩ := u'
      exact br_t rfl (H _ _ hu')
  · rw [hb, if_pos rfl] at H
    refine br_f (by decide) (br_f (by decide) (nm_r (e' := nI (dt_cnt l)) ?_ (dt_addNote true (dt_Se h) hl hq ?_)))
    · rw [he, Int32.add_zero]
    · intro u' hu'
      obtain ⟨en1, fr1, ic1, il1, ix1, ga1, ge1, st1, a11, a21, a31, a41, a51, a61, a71, a81, a91, a101, a111, a121, a131, a141, a151, a161, a171, a181, a191, a201, a211⟩ := u'
      exact br_f (by decide) (H _ _ hu')
theorem dt_remove {post : Int32 → St2 → Prop} {u : St2} {l : List (Bool × Int32 × Int32)} {t q : Int32} {b19 b20 b21 : Nat → Int32} (h : dt_S l (nI (dt_cnt l)) t b19 b20 b21 u) (hl : l.length ≤ 3) (hq : 0 ≤ q ∧ q ≤ 4095) (H : ∀ r u', dt_S (dt_rm q l) (nI (dt_cnt (dt_rm q l))) t b19 b20 b21 u' → post r u') : wpX_remove post u q := by
  have hc := dt_cnt_le l
  obtain ⟨en, fr, ic, il, ix, ga, ge, st, a1, a2, a3, a4, a5, a6, a7, a8, a9, a10, a11, a12, a13, a14, a15, a16, a17, a18, a19, a20, a21⟩ := u
  have he : en = nI (dt_cnt l) := h.2.2.1
  have hp := fun z => dt_cnt_pos (q := q) h.2.1 z
  refine br_f (dt_nlt hq.1) (br_f (Int32.not_lt.mpr hq.2) (br_f (by decide) (dt_page h (by omega) (dt_isIn h (by omega) ?_))))
  unfold dt_rm at H
  cases hb : dt_has q l
  · rw [hb, if_neg (by decide)] at H
    exact br_t rfl (H _ _ h)
  · have hp' := hp hb
    rw [hb, if_pos rfl, dt_cnt_f, hb, if_pos rfl] at H
    refine br_f (by decide) (nm_r (e' := nI (dt_cnt l - 1)) ?_ (dt_addNote false (dt_Se h) hl hq ?_))
    · rw [he]
      have t := nI_pred (dt_cnt l - 1)
      rw [show dt_cnt l - 1 + 1 = dt_cnt l by omega] at t
      exact t
    · intro u' hu'
      obtain ⟨en1, fr1, ic1, il1, ix1, ga1, ge1, st1, a11, a21, a31, a41, a51, a61, a71, a81, a91, a101, a111, a121, a131, a141, a151, a161, a171, a181, a191, a201, a211⟩ := u'
      exact H _ _ hu'
theorem dt_get {post : Int32 → St2 → Prop} {u : St2} {l : List (Bool × Int32 × Int32)} {e t q : Int32} {b19 b20 b21 : Nat → Int32} (h : dt_S l e t b19 b20 b21 u) (hl : l.length ≤ 100) (hq : 0 ≤ q ∧ q ≤ 4095) (H : post (dt_gv q l) u) : wpX_get post u q := by
  obtain ⟨en, fr, ic, il, ix, ga, ge, st, a1, a2, a3, a4, a5, a6, a7, a8, a9, a10, a11, a12, a13, a14, a15, a16, a17, a18, a19, a20, a21⟩ := u
  refine br_f (dt_nlt hq.1) (br_f (Int32.not_lt.mpr hq.2) (br_f (by decide) (dt_page h hl (dt_isIn h hl ?_))))
  unfold dt_gv at H
  cases hb : dt_has q l
  · rw [hb, if_neg (by decide)] at H
    exact br_t rfl H
  · rw [hb, if_pos rfl] at H
    exact br_f (by decide) (dt_valueIn h hl H)
theorem dt_hasW {post : Int32 → St2 → Prop} {u : St2} {l : List (Bool × Int32 × Int32)} {e t q : Int32} {b19 b20 b21 : Nat → Int32} (h : dt_S l e t b19 b20 b21 u) (hl : l.length ≤ 100) (hq : 0 ≤ q ∧ q ≤ 4095) (H : post (dt_b (dt_has q l)) u) : wpX_has post u q := by
  obtain ⟨en, fr, ic, il, ix, ga, ge, st, a1, a2, a3, a4, a5, a6, a7, a8, a9, a10, a11, a12, a13, a14, a15, a16, a17, a18, a19, a20, a21⟩ := u
  refine br_f (dt_nlt hq.1) (br_f (Int32.not_lt.mpr hq.2) (br_f (by decide) (dt_page h hl (dt_isIn h hl ?_))))
  cases hb : dt_has q l
  · rw [hb] at H
    exact br_t rfl H
  · rw [hb] at H
    exact br_f (by decide) H
theorem dt_stage {post : Int32 → St2 → Prop} {u : St2} {l : List (Bool × Int32 × Int32)} {e q v : Int32} {t : Nat} {b19 b20 b21 : Nat → Int32} (k : Bool) (h : dt_S l e (nI t) b19 b20 b21 u) (ht : t < 6) (hq : 0 ≤ q ∧ q ≤ 4095) (H : ∀ u', dt_S l e (nI (t + 1)) (upd b19 t (dt_b k)) (upd b20 t q) (upd b21 t v) u' → post (nI (t + 1)) u') : wpX_stage post u (dt_b k) q v := by
  obtain ⟨en, fr, ic, il, ix, ga, ge, st, a1, a2, a3, a4, a5, a6, a7, a8, a9, a10, a11, a12, a13, a14, a15, a16, a17, a18, a19, a20, a21⟩ := u
  obtain ⟨h1, h2, h3, h4, h5, h6, h7, h8, h9, h10, h11, h12, h13, h14, h15⟩ := h
  subst h12 h13 h14 h15
  have c : (nI t).toNatClampNeg = t := nI_clamp (by omega)
  have V : vp_in (nI t) 6 := pk_in t 6 ht
  refine br_f (dt_nlt hq.1) (br_f (Int32.not_lt.mpr hq.2) (br_f (by decide) (br_t (nI_lt (b := 6) ht (by omega)) ⟨V, nm_r (e' := upd a19 t (dt_b k)) (by rw [c, dt_nb]) ⟨V, nm_r (e' := upd a20 t q) (by rw [c]) ⟨V, nm_r (e' := upd a21 t v) (by rw [c]) (nm_r (nI_1 t) (H _ ?_))⟩⟩⟩)))
  exact dt_Sm h1 h2 h3 h4 h5 h6 h7 h8 h9 h10 h11 rfl rfl rfl rfl
end
section
theorem dt_before {post : Int32 → St2 → Prop} {u : St2} {l : List (Bool × Int32 × Int32)} {e t : Int32} {k : Nat} {b19 b20 b21 : Nat → Int32} (h : dt_S l e t b19 b20 b21 u) (hl : l.length ≤ 100) (hk : k < 6) (hb : ∀ j, j < k → ∃ o, b19 j = dt_b o) (H : ∀ r, post r u) : wpX_isThereBefore post u (nI k) := by
  obtain ⟨en, fr, ic, il, ix, ga, ge, st, a1, a2, a3, a4, a5, a6, a7, a8, a9, a10, a11, a12, a13, a14, a15, a16, a17, a18, a19, a20, a21⟩ := u
  have h13 : a19 = b19 := h.2.2.2.2.2.2.2.2.2.2.2.2.1
  have V : vp_in (nI k) 6 := pk_in k 6 hk
  have main : ∀ i, i ≤ k → wX_isThereBefore_4 post (nI k) en fr ic il ix ga ge st a1 a2 a3 a4 a5 a6 a7 a8 a9 a10 a11 a12 a13 a14 a15 a16 a17 a18 a19 a20 a21 (i + 1) (nI i - 1) := by
    intro i
    induction i with
    | zero =>
      intro _
      exact br_t (by decide) ⟨V, dt_page h hl ⟨V, dt_isIn h hl ⟨dt_nr _, H _⟩⟩⟩
    | succ i ih =>
      intro hi
      rw [nI_pred]
      have ci : (nI i).toNatClampNeg = i := nI_clamp (by omega)
      have Vi : vp_in (nI i) 6 := pk_in i 6 (by omega)
      refine br_f (nI_pos (by omega)) ⟨Vi, V, br_c (fun z => ⟨Vi, ?_, H _⟩) (fun z => nm_r (e' := nI i - 1) (Int32.sub_eq_add_neg _ _).symm (ih (by omega)))⟩
      obtain ⟨o, ho⟩ := hb i (by omega)
      rw [ci, h13, ho]
      exact dt_nr o
  exact nm_e ⟨k + 1, main k (Nat.le_refl k)⟩
/-- a small number -/
def dt_B (c : Nat) (x : Int32) : Prop := -(c : Int) ≤ x.toInt ∧ x.toInt ≤ (c : Int)
theorem dt_Ba {c : Nat} {x z : Int32} (h : dt_B c x) (hc : c ≤ 50) (hz : -1 ≤ z.toInt ∧ z.toInt ≤ 1) : dt_B (c + 1) (x + z) := by
  obtain ⟨h1, h2⟩ := h
  have e : (x + z).toInt = x.toInt + z.toInt := by
    rw [Int32.toInt_add, Int.bmod_def]
    split <;> omega
  unfold dt_B
  rw [e]
  omega
section
variable {post : Int32 → St2 → Prop} {J : Int32 → Int32 → Int32 → Int32 → Int32 → Int32 → Int32 → Int32 → Int32 → Int32 → Int32 → (Nat → Int32) → (Nat → Int32) → (Nat → Int32) → (Nat → Int32) → (Nat → Int32) → (Nat → Int32) → (Nat → Int32) → (Nat → Int32) → (Nat → Int32) → (Nat → Int32) → (Nat → Int32) → (Nat → Int32) → (Nat → Int32) → (Nat → Int32) → (Nat → Int32) → (Nat → Int32) → (Nat → Int32) → (Nat → Int32) → (Nat → Int32) → (Nat → Int32) → (Nat → Int32) → Prop} {en fr ic il ix ga ge st : Int32} {a1 a2 a3 a4 a5 a6 a7 a8 a9 a10 a11 a12 a13 a14 a15 a16 a17 a18 a19 a20 a21 : Nat → Int32}
theorem dt_c62 {i c : Nat} {x z : Int32} (h : dt_B c x) (hc : c ≤ 50) (hz : -1 ≤ z.toInt ∧ z.toInt ≤ 1) (H : ∀ y, dt_B (c + 1) y → J y 1 (nI (i + 1)) en fr ic il ix ga ge st a1 a2 a3 a4 a5 a6 a7 a8 a9 a10 a11 a12 a13 a14 a15 a16 a17 a18 a19 a20 a21) : wX_commit_62 post J 1 (nI i) z x en fr ic il ix ga ge st a1 a2 a3 a4 a5 a6 a7 a8 a9 a10 a11 a12 a13 a14 a15 a16 a17 a18 a19 a20 a21 := by
  have hb := dt_Ba h hc hz
  refine nm_e (br_f (by decide) (br_f ?_ (nm_r (nI_1 i) (H _ hb))))
  intro z
  rw [dt_lt] at z
  have t := hb.2
  have e : (60 : Int32).toInt = 60 := by decide
  omega
theorem dt_c43 {i c : Nat} {x r : Int32} (hi : i < 6) (h : dt_B c x) (hc : c ≤ 50) (H : ∀ y, dt_B (c + 1) y → J y 1 (nI (i + 1)) en fr ic il ix ga ge st a1 a2 a3 a4 a5 a6 a7 a8 a9 a10 a11 a12 a13 a14 a15 a16 a17 a18 a19 a20 a21) : wX_commit_43 post J 1 (nI i) r x en fr ic il ix ga ge st a1 a2 a3 a4 a5 a6 a7 a8 a9 a10 a11 a12 a13 a14 a15 a16 a17 a18 a19 a20 a21 :=
  ⟨pk_in i 6 hi, br_c (fun _ => br_c (fun _ => dt_c62 h hc (by decide) H) (fun _ => dt_c62 h hc (by decide) H)) (fun _ => dt_c62 h hc (by decide) H)⟩
end
theorem dt_c9 {post : Int32 → St2 → Prop} {l : List (Bool × Int32 × Int32)} {e : Int32} {t : Nat} {b19 b20 b21 : Nat → Int32} {en fr ic il ix ga ge st : Int32} {a1 a2 a3 a4 a5 a6 a7 a8 a9 a10 a11 a12 a13 a14 a15 a16 a17 a18 a19 a20 a21 : Nat → Int32} (h : dt_S l e (nI t) b19 b20 b21 (en, fr, ic, il, ix, ga, ge, st, a1, a2, a3, a4, a5, a6, a7, a8, a9, a10, a11, a12, a13, a14, a15, a16, a17, a18, a19, a20, a21)) (hl : l.length ≤ 100) (ht : t ≤ 6) (hb : ∀ j, j < t → ∃ o, b19 j = dt_b o) (H : ∃ n, wX_commit_88 post 1 n 0 en fr ic il ix ga ge st a1 a2 a3 a4 a5 a6 a7 a8 a9 a10 a11 a12 a13 a14 a15 a16 a17 a18 a19 a20 a21) (k : Nat) : ∀ (i : Nat) (x : Int32), i + k = t → dt_B (i + 10) x → wX_commit_9 post (k + 1) x 1 (nI i) en fr ic il ix ga ge st a1 a2 a3 a4 a5 a6 a7 a8 a9 a10 a11 a12 a13 a14 a15 a16 a17 a18 a19 a20 a21 := by
  have h12 : st = nI t := h.2.2.2.2.2.2.2.2.2.2.2.1
  subst h12
  induction k with
  | zero =>
    intro i x hi hx
    exact pk_le t i (fun _ => H) (fun z => absurd z (by omega))
  | succ k ih =>
    intro i x hi hx
    have J : ∀ y, dt_B (i + 10 + 1) y → wX_commit_9 post (k + 1) y 1 (nI (i + 1)) en fr ic il ix ga ge (nI t) a1 a2 a3 a4 a5 a6 a7 a8 a9 a10 a11 a12 a13 a14 a15 a16 a17 a18 a19 a20 a21 := by
      intro y hy
      exact ih (i + 1) y (by omega) (by rw [show i + 1 + 10 = i + 10 + 1 by omega]; exact hy)
    refine pk_le t i (fun z => absurd z (by omega)) (fun _ => dt_before h hl (by omega) (fun j hj => hb j (by omega)) (fun r => ⟨pk_in i 6 (by omega), br_c (fun _ => ?_) (fun _ => br_c (fun _ => ?_) (fun _ => ?_))⟩))
    · exact dt_c43 (by omega) hx (by omega) J
    · exact dt_c62 hx (by omega) (by decide) J
    · exact dt_c43 (by omega) hx (by omega) J
/-- the notes after the first i changes -/
def dt_run (o : Nat → Bool) (b20 b21 : Nat → Int32) (l : List (Bool × Int32 × Int32)) : Nat → List (Bool × Int32 × Int32)
  | 0 => l
  | i + 1 => if o i = true then (true, b20 i, b21 i) :: dt_run o b20 b21 l i else dt_rm (b20 i) (dt_run o b20 b21 l i)
theorem dt_run_s (o : Nat → Bool) (b20 b21 : Nat → Int32) (l : List (Bool × Int32 × Int32)) (i : Nat) : dt_run o b20 b21 l (i + 1) = if o i = true then (true, b20 i, b21 i) :: dt_run o b20 b21 l i else dt_rm (b20 i) (dt_run o b20 b21 l i) := rfl
theorem dt_run_len (o : Nat → Bool) (b20 b21 : Nat → Int32) (l : List (Bool × Int32 × Int32)) (i : Nat) : (dt_run o b20 b21 l i).length ≤ l.length + i := by
  induction i with
  | zero => exact Nat.le_refl _
  | succ i ih =>
    rw [dt_run_s]
    split
    · rw [List.length_cons]; omega
    · unfold dt_rm
      split
      · rw [List.length_cons]; omega
      · omega
theorem dt_c88 {post : Int32 → St2 → Prop} {l : List (Bool × Int32 × Int32)} {t : Nat} {o : Nat → Bool} {b19 b20 b21 : Nat → Int32} (hb : ∀ j, j < t → b19 j = dt_b (o j)) (hq : ∀ j, j < t → 0 ≤ b20 j ∧ b20 j ≤ 4095) (ht : t ≤ 6) (hl : l.length + t ≤ 4)
    (H : ∀ u', dt_S (dt_run o b20 b21 l t) (nI (dt_cnt (dt_run o b20 b21 l t))) 0 b19 b20 b21 u' → post (nI (dt_cnt (dt_run o b20 b21 l t))) u') (k : Nat) :
    ∀ (i : Nat) (en fr ic il ix ga ge st : Int32) (a1 a2 a3 a4 a5 a6 a7 a8 a9 a10 a11 a12 a13 a14 a15 a16 a17 a18 a19 a20 a21 : Nat → Int32), i + k = t → dt_S (dt_run o b20 b21 l i) (nI (dt_cnt (dt_run o b20 b21 l i))) (nI t) b19 b20 b21 (en, fr, ic, il, ix, ga, ge, st, a1, a2, a3, a4, a5, a6, a7, a8, a9, a10, a11, a12, a13, a14, a15, a16, a17, a18, a19, a20, a21) → wX_commit_88 post 1 (k + 1) (nI i) en fr ic il ix ga ge st a1 a2 a3 a4 a5 a6 a7 a8 a9 a10 a11 a12 a13 a14 a15 a16 a17 a18 a19 a20 a21 := by
  induction k with
  | zero =>
    intro i en fr ic il ix ga ge st a1 a2 a3 a4 a5 a6 a7 a8 a9 a10 a11 a12 a13 a14 a15 a16 a17 a18 a19 a20 a21 hi h
    obtain ⟨h1, h2, h3, h4, h5, h6, h7, h8, h9, h10, h11, h12, h13, h14, h15⟩ := h
    have ei : i = t := by omega
    subst ei
    subst h3 h12
    exact pk_le i i (fun _ => br_f (by decide) (H _ (dt_Sm h1 h2 rfl h4 h5 h6 h7 h8 h9 h10 h11 rfl h13 h14 h15))) (fun z => absurd z (by omega))
  | succ k ih =>
    intro i en fr ic il ix ga ge st a1 a2 a3 a4 a5 a6 a7 a8 a9 a10 a11 a12 a13 a14 a15 a16 a17 a18 a19 a20 a21 hi h
    have h12 : st = nI t := h.2.2.2.2.2.2.2.2.2.2.2.1
    have h13 : a19 = b19 := h.2.2.2.2.2.2.2.2.2.2.2.2.1
    have h14 : a20 = b20 := h.2.2.2.2.2.2.2.2.2.2.2.2.2.1
    have h15 : a21 = b21 := h.2.2.2.2.2.2.2.2.2.2.2.2.2.2
    have hn := dt_run_len o b20 b21 l i
    have ci : (nI i).toNatClampNeg = i := nI_clamp (by omega)
    have V : vp_in (nI i) 6 := pk_in i 6 (by omega)
    have hs := dt_run_s o b20 b21 l i
    have hqi := hq i (by omega)
    have hbi := hb i (by omega)
    subst h12 h13 h14 h15
    refine pk_le t i (fun z => absurd z (by omega)) (fun _ => br_f (by decide) ⟨V, ?_⟩)
    cases ho : o i
    · rw [ho] at hbi hs
      rw [if_neg (by decide)] at hs
      refine br_t (by rw [ci, hbi]; rfl) ⟨V, ?_⟩
      rw [ci]
      refine dt_remove h (by omega) hqi (fun r u' hu' => ?_)
      obtain ⟨en1, fr1, ic1, il1, ix1, ga1, ge1, st1, a11, a21, a31, a41, a51, a61, a71, a81, a91, a101, a111, a121, a131, a141, a151, a161, a171, a181, a191, a201, a211⟩ := u'
      rw [← hs] at hu'
      exact nm_r (nI_1 i) (ih (i + 1) en1 fr1 ic1 il1 ix1 ga1 ge1 st1 a11 a21 a31 a41 a51 a61 a71 a81 a91 a101 a111 a121 a131 a141 a151 a161 a171 a181 a191 a201 a211 (by omega) hu')
    · rw [ho] at hbi hs
      rw [if_pos rfl] at hs
      refine br_f (by rw [ci, hbi]; decide) ⟨V, V, ?_⟩
      rw [ci]
      refine dt_put h (by omega) hqi (fun r u' hu' => ?_)
      obtain ⟨en1, fr1, ic1, il1, ix1, ga1, ge1, st1, a11, a21, a31, a41, a51, a61, a71, a81, a91, a101, a111, a121, a131, a141, a151, a161, a171, a181, a191, a201, a211⟩ := u'
      rw [← hs] at hu'
      exact nm_r (nI_1 i) (ih (i + 1) en1 fr1 ic1 il1 ix1 ga1 ge1 st1 a11 a21 a31 a41 a51 a61 a71 a81 a91 a101 a111 a121 a131 a141 a151 a161 a171 a181 a191 a201 a211 (by omega) hu')
theorem dt_commit {post : Int32 → St2 → Prop} {u : St2} {l : List (Bool × Int32 × Int32)} {t : Nat} {o : Nat → Bool} {b19 b20 b21 : Nat → Int32} (h : dt_S l (nI (dt_cnt l)) (nI t) b19 b20 b21 u) (hb : ∀ j, j < t → b19 j = dt_b (o j)) (hq : ∀ j, j < t → 0 ≤ b20 j ∧ b20 j ≤ 4095) (hl : l.length + t ≤ 4)
    (H : ∀ u', dt_S (dt_run o b20 b21 l t) (nI (dt_cnt (dt_run o b20 b21 l t))) 0 b19 b20 b21 u' → post (nI (dt_cnt (dt_run o b20 b21 l t))) u') : wpX_commit post u := by
  have hc := dt_cnt_le l
  obtain ⟨en, fr, ic, il, ix, ga, ge, st, a1, a2, a3, a4, a5, a6, a7, a8, a9, a10, a11, a12, a13, a14, a15, a16, a17, a18, a19, a20, a21⟩ := u
  have h3 : en = nI (dt_cnt l) := h.2.2.1
  refine ⟨t + 1, dt_c9 h (by omega) (by omega) (fun j hj => ⟨o j, hb j hj⟩) ⟨t + 1, dt_c88 hb hq (by omega) hl H t 0 en fr ic il ix ga ge st a1 a2 a3 a4 a5 a6 a7 a8 a9 a10 a11 a12 a13 a14 a15 a16 a17 a18 a19 a20 a21 (by omega) h⟩ t 0 en (by omega) ?_⟩
  rw [h3]
  unfold dt_B
  rw [nI_toInt (by omega)]
  omega
end
section
section
variable {post : St2 → Prop} {en fr ic il ix ga ge st : Int32} {a1 a2 a3 a4 a5 a6 a7 a8 a9 a10 a11 a12 a13 a14 a15 a16 a17 a18 a19 a20 a21 : Nat → Int32}
theorem dt_256 {g : Nat → Int32} {c p : Nat} (hc : c ≤ 14) (H : ∀ s s15, (∀ j, j < p → s j = g j) → (∀ j, p ≤ j → j < c → s j = g (j + 1)) → post (en, fr, ic, il, ix, nI c, ge, st, a1, a2, a3, a4, a5, a6, a7, a8, a9, a10, a11, a12, a13, s, s15, a16, a17, a18, a19, a20, a21)) (k : Nat) :
    ∀ (i : Nat) (s s15 : Nat → Int32), i + k = c → p ≤ i → (∀ j, j < p → s j = g j) → (∀ j, p ≤ j → j < i → s j = g (j + 1)) → (∀ j, i ≤ j → j ≤ c → s j = g j) → wX_apply_256 post en fr ic il ix (nI c) ge st (k + 1) (nI i) a1 a2 a3 a4 a5 a6 a7 a8 a9 a10 a11 a12 a13 s s15 a16 a17 a18 a19 a20 a21 := by
  induction k with
  | zero =>
    intro i s s15 hi hp s1 s2 s3
    have ei : i = c := by omega
    subst ei
    exact pk_le i i (fun _ => H s s15 s1 s2) (fun z => absurd z (by omega))
  | succ k ih =>
    intro i s s15 hi hp s1 s2 s3
    have ci : (nI i).toNatClampNeg = i := nI_clamp (by omega)
    have ci1 : (nI i + 1).toNatClampNeg = i + 1 := by rw [nI_1]; exact nI_clamp (by omega)
    have V : vp_in (nI i) 16 := pk_in i 16 (by omega)
    have V1 : vp_in (nI i + 1) 16 := pk_in (i + 1) 16 (by omega) (nI_1 i)
    refine pk_le c i (fun z => absurd z (by omega)) (fun _ => ⟨V1, V, nm_r (e' := upd s i (s (i + 1))) (by rw [ci, ci1]) ⟨V1, V, nm_e (nm_r (nI_1 i) (ih (i + 1) _ _ (by omega) (by omega) ?_ ?_ ?_))⟩⟩)
    · intro j hj
      rw [pk_un (by omega)]
      exact s1 j hj
    · intro j hj hj2
      by_cases e : j = i
      · rw [e, pk_us]
        exact s3 (i + 1) (by omega) (by omega)
      · rw [pk_un e]
        exact s2 j hj (by omega)
    · intro j hj hj2
      rw [pk_un (by omega)]
      exact s3 j (by omega) hj2
theorem dt_148 {g : Nat → Int32} {c p r : Nat} {q : Int32} (hc : c ≤ 14) (hr : r < 160) (H : ∀ s s15, (∀ j, j < p → s j = g j) → (∀ j, p ≤ j → j < c → s (j + 1) = g j) → post (en, fr, ic, il, ix, nI (c + 1), ge, st, a1, a2, a3, a4, a5, a6, a7, a8, a9, a10, a11, a12, a13, upd s p q, s15, a16, a17, a18, a19, a20, a21)) (k : Nat) :
    ∀ (i : Nat) (s s15 : Nat → Int32), i = p + k → i ≤ c → (∀ j, j < i → s j = g j) → (∀ j, i ≤ j → j < c → s (j + 1) = g j) → wX_apply_148 post (nI r) q (nI p) 0 en fr ic il ix (nI c) ge st (k + 1) (nI i) a1 a2 a3 a4 a5 a6 a7 a8 a9 a10 a11 a12 a13 s s15 a16 a17 a18 a19 a20 a21 := by
  induction k with
  | zero =>
    intro i s s15 hi hp s1 s2
    have ei : i = p := by omega
    subst ei
    have ci : (nI i).toNatClampNeg = i := nI_clamp (by omega)
    have V : vp_in (nI i) 16 := pk_in i 16 (by omega)
    exact pk_le i i (fun _ => br_t rfl (nm_r (nI_1 c) ⟨V, nm_r (e' := upd s i q) (by rw [ci]) ⟨pk_in r 160 hr, V, nm_e (H s _ s1 s2)⟩⟩)) (fun z => absurd z (by omega))
  | succ k ih =>
    intro i' s s15 hi hp s1 s2
    obtain ⟨i, hik⟩ : ∃ i, i = p + k := ⟨_, rfl⟩
    have e : i' = i + 1 := by omega
    subst e
    have ci : (nI i).toNatClampNeg = i := nI_clamp (by omega)
    have ci1 : (nI (i + 1)).toNatClampNeg = i + 1 := nI_clamp (by omega)
    have V : vp_in (nI (i + 1)) 16 := pk_in (i + 1) 16 (by omega)
    have V1 : vp_in (nI (i + 1) - 1) 16 := pk_in i 16 (by omega) (nI_pred i)
    refine pk_le (i + 1) p (fun z => absurd z (by omega)) (fun _ => br_t rfl ⟨V1, V, nm_r (e' := upd s (i + 1) (s i)) (by rw [nI_pred, ci, ci1]) ⟨V1, V, nm_e (nm_r (pk_m1 i) (ih i _ _ (by omega) (by omega) ?_ ?_))⟩⟩)
    · intro j hj
      rw [pk_un (by omega)]
      exact s1 j (by omega)
    · intro j hj hj2
      by_cases e : j = i
      · rw [e, pk_us]
        exact s1 i (by omega)
      · rw [pk_un (by omega)]
        exact s2 j (by omega) hj2
theorem dt_74 {c p : Nat} {x1 q : Int32} (hc : c ≤ 14) (hp : p ≤ c) (h2 : ∀ j, j < p → a14 j < q) (h3 : ∀ j, p ≤ j → j < c → q ≤ a14 j) (H1 : p < c → a14 p = q → wX_apply_131 post x1 q (nI p) 1 en fr ic il ix (nI c) ge st a1 a2 a3 a4 a5 a6 a7 a8 a9 a10 a11 a12 a13 a14 a15 a16 a17 a18 a19 a20 a21) (H0 : ¬ (p < c ∧ a14 p = q) → wX_apply_131 post x1 q (nI p) 0 en fr ic il ix (nI c) ge st a1 a2 a3 a4 a5 a6 a7 a8 a9 a10 a11 a12 a13 a14 a15 a16 a17 a18 a19 a20 a21) (k : Nat) :
    ∀ i : Nat, i + k = c → wX_apply_74 post x1 q en fr ic il ix (nI c) ge st a1 a2 a3 a4 a5 a6 a7 a8 a9 a10 a11 a12 a13 a14 a15 a16 a17 a18 a19 a20 a21 (k + 1) (nI (min i p)) (nI i) := by
  induction k with
  | zero =>
    intro i hi
    have ei : i = c := by omega
    subst ei
    rw [show min i p = p by omega]
    have cp : (nI p).toNatClampNeg = p := nI_clamp (by omega)
    refine pk_le i i (fun _ => pk_le i p (fun z => H0 (fun y => absurd y.1 (by omega))) (fun z => ⟨pk_in p 16 (by omega), br_c (fun y => H1 z ?_) (fun y => H0 (fun w => y ?_))⟩)) (fun z => absurd z (by omega))
    · rw [cp] at y; exact y
    · rw [cp]; exact w.2
  | succ k ih =>
    intro i hi
    have ci : (nI i).toNatClampNeg = i := nI_clamp (by omega)
    have t := ih (i + 1) (by omega)
    refine pk_le c i (fun z => absurd z (by omega)) (fun _ => ⟨pk_in i 16 (by omega), ?_⟩)
    by_cases e : i < p
    · refine br_f ?_ (nm_r (e' := nI (min (i + 1) p)) ?_ (nm_r (nI_1 i) t))
      · rw [ci]
        exact Int32.not_le.mpr (h2 i e)
      · rw [nI_1, show min (i + 1) p = min i p + 1 by omega]
    · refine br_t ?_ (nm_r (e' := nI (min (i + 1) p)) ?_ (nm_r (nI_1 i) t))
      · rw [ci]
        exact h3 i (by omega) (by omega)
      · rw [Int32.add_zero, show min (i + 1) p = min i p by omega]
theorem dt_apply {m : List (Bool × Int32 × Int32)} {c r : Nat} {k : Bool} {q v : Int32} (hr : r < 160) (h8 : a8 r = dt_k k) (h9 : a9 r = q) (hq : 0 ≤ q ∧ q ≤ 4095) (hG : dt_G m c a14) (hc : c ≤ 14) (H : ∀ c' s s15, dt_G ((k, q, v) :: m) c' s → post (en, fr, ic, il, ix, nI c', ge, st, a1, a2, a3, a4, a5, a6, a7, a8, a9, a10, a11, a12, a13, s, s15, a16, a17, a18, a19, a20, a21)) : wpX_apply post (en, fr, ic, il, ix, nI c, ge, st, a1, a2, a3, a4, a5, a6, a7, a8, a9, a10, a11, a12, a13, a14, a15, a16, a17, a18, a19, a20, a21) (nI r) := by
  have cr : (nI r).toNatClampNeg = r := nI_clamp (by omega)
  have V : vp_in (nI r) 160 := pk_in r 160 hr
  obtain ⟨p, p1, p2, p3⟩ := dt_pos a14 q c hG.2.1
  have pt := dt_there hG p2 p3
  have cp : (nI p).toNatClampNeg = p := nI_clamp (by omega)
  have t : wX_apply_74 post (nI r) q en fr ic il ix (nI c) ge st a1 a2 a3 a4 a5 a6 a7 a8 a9 a10 a11 a12 a13 a14 a15 a16 a17 a18 a19 a20 a21 (c + 1) (nI (min 0 p)) (nI 0) := by
    refine dt_74 hc p1 p2 p3 (fun z1 z2 => ⟨V, ?_⟩) (fun z => ⟨V, ?_⟩) c 0 (by omega)
    · cases k
      · refine br_f (by rw [cr, h8]; exact dt_kf) (br_f (by decide) (nm_r (e' := nI (c - 1)) ?_ ⟨c - 1 - p + 1, dt_256 (g := a14) (c := c - 1) (p := p) (by omega) (fun s s15 s1 s2 => H _ _ _ (dt_Gd (c := c - 1) ?_ (by omega) z2 s1 s2)) (c - 1 - p) p _ _ (by omega) (by omega) (fun j _ => rfl) (fun j a b => absurd b (by omega)) (fun j _ _ => rfl)⟩))
        · have y := nI_pred (c - 1)
          rw [show c - 1 + 1 = c by omega] at y
          exact y
        · rw [show c - 1 + 1 = c by omega]
          exact hG
      · exact br_t (by rw [cr, h8]; exact dt_kt) ⟨1, pk_le c p (fun z => absurd z (by omega)) (fun _ => br_f (by decide) (br_f (by decide) (nm_r (Int32.add_zero _) ⟨pk_in p 16 (by omega), nm_r (e' := upd a14 p q) (by rw [cp]) ⟨V, pk_in p 16 (by omega), nm_e (H _ _ _ (dt_Gp hG z1 z2))⟩⟩)))⟩
    · have ht : ¬ dt_has q m = true := fun y => z (pt.mp y)
      cases k
      · exact br_f (by rw [cr, h8]; exact dt_kf) (br_t rfl (H _ _ _ (dt_Gn hG ht)))
      · exact br_t (by rw [cr, h8]; exact dt_kt) ⟨c - p + 1, dt_148 (g := a14) (p := p) hc hr (fun s s15 s1 s2 => H _ _ _ (dt_Gi hG hq p1 p2 p3 ht s1 s2)) (c - p) c _ _ (by omega) (Nat.le_refl c) (fun j _ => rfl) (fun j a b => absurd b (by omega))⟩
  rw [Nat.zero_min] at t
  exact ⟨V, nm_r (e' := q) (by rw [cr, h9]) ⟨V, br_f (by rw [cr, h8]; exact dt_k2 _) ⟨c + 1, t⟩⟩⟩
theorem dt_g113 {N : Nat} (hN : N ≤ 4) (h16 : ∀ j, j < N → a16 j = nI (N - 1 - j)) (m : List (Bool × Int32 × Int32)) :
    ∀ x, dt_ch a8 a9 a10 a11 m x → m.length ≤ N → (∀ n, n ∈ m → 0 ≤ n.2.1 ∧ n.2.1 ≤ 4095) → (∀ c s s15, dt_G m c s → wX_gather_113 post (N - m.length + 1) (nI (N - m.length) - 1) en fr ic il ix (nI c) ge st a1 a2 a3 a4 a5 a6 a7 a8 a9 a10 a11 a12 a13 s s15 a16 a17 a18 a19 a20 a21) → wX_gather_113 post (N + 1) (nI N - 1) en fr ic il ix 0 ge st a1 a2 a3 a4 a5 a6 a7 a8 a9 a10 a11 a12 a13 a14 a15 a16 a17 a18 a19 a20 a21 := by
  induction m with
  | nil =>
    intro x _ _ _ H
    exact H 0 _ _ (dt_G0 _)
  | cons n m ih =>
    intro x hx hm hk H
    rw [List.length_cons] at hm H
    obtain ⟨e, h8, h9, h10, h11⟩ := hx
    refine ih _ h11 (by omega) (fun n hn => hk n (List.mem_cons_of_mem _ hn)) (fun c s s15 hG => ?_)
    have hq := hk n (List.mem_cons_self ..)
    obtain ⟨k, q, v⟩ := n
    dsimp only at h8 h9 hq
    have hc := dt_cnt_le m
    rw [← hG.1] at hc
    generalize hK : N - (m.length + 1) = K at H
    have eK : N - m.length = K + 1 := by omega
    rw [eK, nI_pred]
    have cK : (nI K).toNatClampNeg = K := nI_clamp (by omega)
    have aK : a16 (nI K).toNatClampNeg = nI m.length := by
      rw [cK, h16 K (by omega), show N - 1 - K = m.length by omega]
    refine br_f (nI_pos (by omega)) ⟨pk_in K 8 (by omega), ?_⟩
    rw [aK]
    exact dt_apply (v := v) (by omega) h8 h9 hq hG (by omega) (fun c' s' s15' hG' => nm_r (e' := nI K - 1) (Int32.sub_eq_add_neg _ _).symm (H c' s' s15' hG'))
theorem dt_g79 {N : Nat} (hN : N ≤ 4) (H : ∀ s, (∀ j, j < N → s j = nI (N - 1 - j)) → ∃ fu, wX_gather_113 post fu (nI N - 1) en fr ic il ix ga ge st a1 a2 a3 a4 a5 a6 a7 a8 a9 a10 a11 a12 a13 a14 a15 s a17 a18 a19 a20 a21) (m : List (Bool × Int32 × Int32)) :
    ∀ (i : Nat) (x : Int32) (s : Nat → Int32), dt_ch a8 a9 a10 a11 m x → i + m.length = N → (∀ j, j < i → s j = nI (N - 1 - j)) → wX_gather_79 post en fr ic il ix ga ge st (m.length + 1) (nI i) x a1 a2 a3 a4 a5 a6 a7 a8 a9 a10 a11 a12 a13 a14 a15 s a17 a18 a19 a20 a21 := by
  induction m with
  | nil =>
    intro i x s hx hi hs
    have e : x = -1 := hx
    have ei : i = N := by
      rw [List.length_nil] at hi
      omega
    subst ei
    exact br_t (by rw [e]; decide) (nm_e (H s hs))
  | cons n m ih =>
    intro i x s hx hi hs
    rw [List.length_cons] at hi
    obtain ⟨e, h8, h9, h10, h11⟩ := hx
    subst e
    have c : (nI m.length).toNatClampNeg = m.length := nI_clamp (by omega)
    have ci : (nI i).toNatClampNeg = i := nI_clamp (by omega)
    refine br_f (nI_pos (by omega)) (br_f (nI_ge (b := 8) (by omega) (by omega)) ⟨pk_in i 8 (by omega), nm_r (e' := upd s i (nI m.length)) (by rw [ci]) (nm_r (nI_1 i) ⟨pk_in m.length 160 (by omega), nm_r (by rw [c]) (ih (i + 1) _ _ h11 (by omega) (fun j hj => ?_))⟩)⟩)
    by_cases ej : j = i
    · rw [ej, pk_us, show N - 1 - i = m.length by omega]
    · rw [pk_un ej]
      exact hs j (by omega)
end
theorem dt_gather {post : St2 → Prop} {l : List (Bool × Int32 × Int32)} {e t : Int32} {b19 b20 b21 : Nat → Int32} {en fr ic il ix ga ge st : Int32} {a1 a2 a3 a4 a5 a6 a7 a8 a9 a10 a11 a12 a13 a14 a15 a16 a17 a18 a19 a20 a21 : Nat → Int32} (h : dt_S l e t b19 b20 b21 (en, fr, ic, il, ix, ga, ge, st, a1, a2, a3, a4, a5, a6, a7, a8, a9, a10, a11, a12, a13, a14, a15, a16, a17, a18, a19, a20, a21)) (hl : l.length ≤ 4) (H : ∀ c s s15 s16, dt_G l c s → post (en, fr, ic, il, ix, nI c, 4096, st, a1, a2, a3, a4, a5, a6, a7, a8, a9, a10, a11, a12, a13, s, s15, s16, a17, a18, a19, a20, a21)) : wpX_gather post (en, fr, ic, il, ix, ga, ge, st, a1, a2, a3, a4, a5, a6, a7, a8, a9, a10, a11, a12, a13, a14, a15, a16, a17, a18, a19, a20, a21) 0 := by
  obtain ⟨h1, h2, h3, h4, h5, h6, h7, h8, h9, h10, h11, h12, h13, h14, h15⟩ := h
  have Z : vp_in (0 : Int32) 24 := pk_in 0 24 (by omega)
  refine ⟨Z, nm_r (e' := 0) (by rw [dt_c0, h8]) ⟨Z, nm_r (e' := 4096) (by rw [dt_c0, h9]) ⟨1, br_t (by decide) ⟨Z, nm_r (e' := a2 0) (by rw [dt_c0]) ⟨l.length + 1, dt_g79 hl (fun s hs => ⟨l.length + 1, dt_g113 hl hs l _ h1 (Nat.le_refl _) h2 (fun c s' s15 hG => ?_)⟩) l 0 _ _ h1 (by omega) (fun j hj => absurd hj (by omega))⟩⟩⟩⟩⟩
  rw [Nat.sub_self]
  exact br_t (by decide) (H _ _ _ _ hG)
section
variable {post : Int32 → St2 → Prop} {J : Int32 → Int32 → Int32 → Int32 → Int32 → Int32 → Int32 → Int32 → Int32 → Int32 → Int32 → (Nat → Int32) → (Nat → Int32) → (Nat → Int32) → (Nat → Int32) → (Nat → Int32) → (Nat → Int32) → (Nat → Int32) → (Nat → Int32) → (Nat → Int32) → (Nat → Int32) → (Nat → Int32) → (Nat → Int32) → (Nat → Int32) → (Nat → Int32) → (Nat → Int32) → (Nat → Int32) → (Nat → Int32) → (Nat → Int32) → (Nat → Int32) → (Nat → Int32) → (Nat → Int32) → Prop} {en fr ic il ix ga ge st : Int32} {a1 a2 a3 a4 a5 a6 a7 a8 a9 a10 a11 a12 a13 a14 a15 a16 a17 a18 a19 a20 a21 : Nat → Int32}
theorem dt_54 {c : Nat} (hc : c ≤ 14) (hr : ∀ j, j < c → 0 ≤ a14 j ∧ a14 j ≤ 4095) (H : J (nI c) ge 1 en fr ic il ix (nI c) ge st a1 a2 a3 a4 a5 a6 a7 a8 a9 a10 a11 a12 a13 a14 a15 a16 a17 a18 a19 a20 a21) (k : Nat) : ∀ i : Nat, i + k = c → wX_count_54 post J 4095 0 0 en fr ic il ix (nI c) ge st a1 a2 a3 a4 a5 a6 a7 a8 a9 a10 a11 a12 a13 a14 a15 a16 a17 a18 a19 a20 a21 (k + 1) (nI i) (nI i) := by
  induction k with
  | zero =>
    intro i hi
    have ei : i = c := by omega
    subst ei
    exact pk_le i i (fun _ => nm_r (e' := 1) (by decide) H) (fun z => absurd z (by omega))
  | succ k ih =>
    intro i hi
    have ci : (nI i).toNatClampNeg = i := nI_clamp (by omega)
    have V : vp_in (nI i) 16 := pk_in i 16 (by omega)
    have t := hr i (by omega)
    exact pk_le c i (fun z => absurd z (by omega)) (fun _ => ⟨V, br_f (by rw [ci]; exact Int32.not_lt.mpr t.1) ⟨V, br_f (by rw [ci]; exact Int32.not_lt.mpr t.2) (nm_r (nI_1 i) (nm_r (nI_1 i) (ih (i + 1) (by omega))))⟩⟩)
end
theorem dt_count {post : Int32 → St2 → Prop} {u : St2} {l : List (Bool × Int32 × Int32)} {e t : Int32} {b19 b20 b21 : Nat → Int32} (h : dt_S l e t b19 b20 b21 u) (hl : l.length ≤ 4) (H : ∀ u', post (nI (dt_cnt l)) u') : wpX_count post u 0 4095 := by
  obtain ⟨en, fr, ic, il, ix, ga, ge, st, a1, a2, a3, a4, a5, a6, a7, a8, a9, a10, a11, a12, a13, a14, a15, a16, a17, a18, a19, a20, a21⟩ := u
  have hc := dt_cnt_le l
  refine br_t (by decide) ⟨2, br_f (by decide) (br_f (by decide) (br_f (by decide) (dt_page h (by omega) (dt_gather h hl (fun c s s15 s16 hG => ⟨c + 1, dt_54 ?_ hG.2.2.1 ?_ c 0 (by omega)⟩)))))⟩
  · rw [hG.1]; omega
  · refine br_f (by decide) (br_t (by decide) ?_)
    rw [hG.1]
    exact H _
end
section
theorem dt_fill0 {post : St2 → Prop} {en fr ic il ix ga ge st : Int32} {a1 a2 a3 a4 a5 a6 a7 a8 a9 a10 a11 a12 a13 a14 a15 a16 a17 a18 a19 a20 a21 : Nat → Int32} (H : post (en, fr, ic, il, ix + 1, ga, ge, st, a1, a2, a3, upd a4 0 0, a5, a6, upd a7 0 4096, a8, a9, a10, a11, upd a12 0 0, upd a13 0 0, a14, a15, a16, a17, a18, a19, a20, a21)) : wpX_fillPage post (en, fr, ic, il, ix, ga, ge, st, a1, a2, a3, a4, a5, a6, a7, a8, a9, a10, a11, a12, a13, a14, a15, a16, a17, a18, a19, a20, a21) 0 0 := by
  have Z : vp_in (0 : Int32) 24 := pk_in 0 24 (by omega)
  exact ⟨Z, nm_r (e' := upd a4 0 0) (by rw [dt_c0]) (nm_r (e' := 0) (by decide) ⟨1, br_f (by decide) (br_t (by decide) (br_t (by decide) ⟨Z, nm_r (e' := upd a7 0 4096) (by rw [dt_c0]) (br_t rfl ⟨Z, nm_r (e' := upd a12 0 0) (by rw [dt_c0]) ⟨Z, nm_r (e' := upd a13 0 0) (by rw [dt_c0]) (nm_e H)⟩⟩)⟩))⟩)⟩
theorem dt_6 {i : Nat} (h : i ≤ 24) : (0 : Int32) ≤ 6 * nI i := by
  rw [show (6 : Int32) * nI i = nI (6 * i) from pk_mul 6 i]
  exact nI_pos' (by omega)
theorem dt_lay57 {post : St2 → Prop} {e t : Int32} {b19 b20 b21 : Nat → Int32} (H : ∀ u, dt_S [] e t b19 b20 b21 u → post u) (k : Nat) :
    ∀ (i : Nat) (en fr ic il ix ga ge st : Int32) (a1 a2 a3 a4 a5 a6 a7 a8 a9 a10 a11 a12 a13 a14 a15 a16 a17 a18 a19 a20 a21 : Nat → Int32), i + k = 24 → 0 < i → dt_S [] e t b19 b20 b21 (en, fr, ic, il, ix, ga, ge, st, a1, a2, a3, a4, a5, a6, a7, a8, a9, a10, a11, a12, a13, a14, a15, a16, a17, a18, a19, a20, a21) → wX_layOut_57 post 0 (k + 1) (nI i) en fr ic il ix ga ge st a1 a2 a3 a4 a5 a6 a7 a8 a9 a10 a11 a12 a13 a14 a15 a16 a17 a18 a19 a20 a21 := by
  induction k with
  | zero =>
    intro i en fr ic il ix ga ge st a1 a2 a3 a4 a5 a6 a7 a8 a9 a10 a11 a12 a13 a14 a15 a16 a17 a18 a19 a20 a21 hi h0 h
    exact pk_le 24 i (fun _ => H _ h) (fun z => absurd z (by omega))
  | succ k ih =>
    intro i en fr ic il ix ga ge st a1 a2 a3 a4 a5 a6 a7 a8 a9 a10 a11 a12 a13 a14 a15 a16 a17 a18 a19 a20 a21 hi h0 h
    obtain ⟨h1, h2, h3, h4, h5, h6, h7, h8, h9, h10, h11, h12, h13, h14, h15⟩ := h
    have ci : (nI i).toNatClampNeg = i := nI_clamp (by omega)
    have V : vp_in (nI i) 24 := pk_in i 24 (by omega)
    refine pk_le 24 i (fun z => absurd z (by omega)) (fun _ => br_f (nI_ne0 h0 (by omega)) (br_t (dt_6 (by omega)) ⟨V, nm_r (e' := upd a1 i 0) (by rw [ci]; rfl) ⟨V, nm_r (e' := upd a2 i (-1)) (by rw [ci]) ⟨V, nm_r (e' := upd a3 i 0) (by rw [ci]) ⟨V, br_t (by rw [ci, pk_us]) (nm_r (nI_1 i) (ih (i + 1) _ _ _ _ _ _ _ _ _ _ _ _ _ _ _ _ _ _ _ _ _ _ _ _ _ _ _ _ _ (by omega) (by omega) (dt_Sm ?_ h2 h3 h4 h5 h6 ?_ h8 h9 h10 h11 h12 h13 h14 h15)))⟩⟩⟩⟩))
    · rw [pk_un (by omega)]; exact h1
    · rw [pk_un (by omega)]; exact h7
theorem dt_lay0 {post : St2 → Prop} {ga ge st : Int32} {a1 a2 a3 a4 a5 a6 a7 a8 a9 a10 a11 a12 a13 a14 a15 a16 a17 a18 a19 a20 a21 : Nat → Int32} (h11 : ∀ j, j < 159 → a11 j = nI (j + 1)) (H : ∀ u, dt_S [] (nI (dt_cnt [])) st a19 a20 a21 u → post u) : wX_layOut_57 post 0 25 0 0 0 (-1) 0 0 ga ge st a1 a2 a3 a4 a5 a6 a7 a8 a9 a10 a11 a12 a13 a14 a15 a16 a17 a18 a19 a20 a21 := by
  have Z : vp_in (0 : Int32) 24 := pk_in 0 24 (by omega)
  refine br_f (by decide) (br_t rfl ⟨Z, nm_r (e' := upd a1 0 1) (by rw [dt_c0]; rfl) ⟨Z, nm_r (e' := upd a2 0 (-1)) (by rw [dt_c0]) ⟨Z, nm_r (e' := upd a3 0 0) (by rw [dt_c0]) ⟨Z, br_f (by rw [dt_c0, pk_us]; decide) (dt_fill0 (nm_r (e' := nI 1) (by decide) (dt_lay57 H 23 1 _ _ _ _ _ _ _ _ _ _ _ _ _ _ _ _ _ _ _ _ _ _ _ _ _ _ _ _ _ (by omega) (by omega) (dt_Sm pk_us ?_ rfl rfl rfl (by decide) pk_us pk_us pk_us pk_us (fun j _ hj => h11 j hj) rfl rfl rfl rfl))))⟩⟩⟩⟩)
  intro n hn
  exact absurd hn List.not_mem_nil
theorem dt_lay2 {post : St2 → Prop} {en fr ic il ix ga ge st : Int32} {a1 a2 a3 a4 a5 a6 a7 a8 a9 a10 a11 a12 a13 a14 a15 a16 a17 a18 a19 a20 a21 : Nat → Int32} (H : ∀ s, (∀ j, j < 159 → s j = nI (j + 1)) → ∃ fu, wX_layOut_57 post 0 fu 0 en 0 (-1) 0 0 ga ge st a1 a2 a3 a4 a5 a6 a7 a8 a9 a10 s a12 a13 a14 a15 a16 a17 a18 a19 a20 a21) (k : Nat) :
    ∀ (i : Nat) (s : Nat → Int32), i + k = 160 → (∀ j, j < i → j < 159 → s j = nI (j + 1)) → wX_layOut_2 post 0 en fr ic il ix ga ge st (k + 1) (nI i) a1 a2 a3 a4 a5 a6 a7 a8 a9 a10 s a12 a13 a14 a15 a16 a17 a18 a19 a20 a21 := by
  induction k with
  | zero =>
    intro i s hi hs
    have ei : i = 160 := by omega
    subst ei
    exact pk_le 160 160 (fun _ => H s (fun j hj => hs j (by omega) hj)) (fun z => absurd z (by omega))
  | succ k ih =>
    intro i s hi hs
    have ci : (nI i).toNatClampNeg = i := nI_clamp (by omega)
    have V : vp_in (nI i) 160 := pk_in i 160 (by omega)
    refine pk_le 160 i (fun z => absurd z (by omega)) (fun _ => pk_eq i 159 (fun z => ⟨V, nm_r (e' := upd s i (-1)) (by rw [ci]) (nm_r (nI_1 i) (ih (i + 1) _ (by omega) (fun j hj hj2 => ?_)))⟩) (fun z => ⟨V, nm_r (e' := upd s i (nI (i + 1))) (by rw [ci, nI_1]) (nm_r (nI_1 i) (ih (i + 1) _ (by omega) (fun j hj hj2 => ?_)))⟩))
    · rw [pk_un (by omega)]
      exact hs j (by omega) hj2
    · by_cases ej : j = i
      · rw [ej, pk_us]
      · rw [pk_un ej]
        exact hs j (by omega) hj2
theorem dt_init {post : St2 → Prop} (H : ∀ u, dt_S [] (nI (dt_cnt [])) (nI 0) (fun _ => 0) (fun _ => 0) (fun _ => 0) u → post u) : wpX_init post 21 1562 (0, 0, 0, 0, 0, 0, 0, 0) := by
  refine ⟨by decide, by decide, by decide, by decide, by decide, by decide, by decide, by decide, by decide, by decide, by decide, by decide, by decide, by decide, by decide, by decide, by decide, by decide, by decide, by decide, by decide, by decide, by decide, by decide, by decide, by decide, by decide, by decide, by decide, by decide, by decide, by decide, by decide, by decide, by decide, by decide, by decide, by decide, by decide, by decide, by decide, by decide, ⟨161, dt_lay2 (a11 := fun _ => 0) (fun s hs => ⟨25, dt_lay0 hs ?_⟩) 160 0 _ (by omega) (fun j hj => absurd hj (by omega))⟩⟩
  intro u hu
  obtain ⟨en, fr, ic, il, ix, ga, ge, st, a1, a2, a3, a4, a5, a6, a7, a8, a9, a10, a11, a12, a13, a14, a15, a16, a17, a18, a19, a20, a21⟩ := u
  exact H _ hu
end
section
/-- the law's first and second -/
def dt_f (on off : Bool) (a b : Int32) : Bool := !off && (!decide (a = b) || on)
def dt_s (on off : Bool) (a b : Int32) : Bool := on && (!decide (a = b) || !off)
/-- the notes l answer as the law says -/
def dt_ok (on off : Bool) (a b x y : Int32) (l : List (Bool × Int32 × Int32)) : Prop :=
  nI (dt_cnt l) = (if a = b then dt_b (dt_f on off a b) else dt_b (dt_f on off a b) + dt_b (dt_s on off a b)) ∧ dt_has a l = dt_f on off a b ∧ dt_gv b l = (if dt_s on off a b = true then y else 0) ∧ dt_gv a l = (if dt_f on off a b = true then (if a = b then y else x) else 0)
/-- the notes behind two changes -/
def dt_l2 (on : Bool) (a b x y : Int32) : List (Bool × Int32 × Int32) := (on, b, if on = true then y else 0) :: (true, a, x) :: (true, b, 77) :: []
theorem dt_ok2 (on : Bool) (a b x y : Int32) : dt_ok on false a b x y (dt_l2 on a b x y) := by
  by_cases e : a = b
  · subst e
    cases on
    · refine ⟨?_, ?_, ?_, ?_⟩ <;> simp [dt_l2, dt_f, dt_s, dt_gv, dt_cnt, dt_has, dt_val, dt_b, nI]
    · refine ⟨?_, ?_, ?_, ?_⟩ <;> simp [dt_l2, dt_f, dt_s, dt_gv, dt_cnt, dt_has, dt_val, dt_b, nI]
  · have e' : ¬ b = a := fun z => e z.symm
    cases on
    · refine ⟨?_, ?_, ?_, ?_⟩ <;> simp [dt_l2, dt_f, dt_s, dt_gv, dt_cnt, dt_has, dt_val, dt_b, nI, e, e']
    · refine ⟨?_, ?_, ?_, ?_⟩ <;> simp [dt_l2, dt_f, dt_s, dt_gv, dt_cnt, dt_has, dt_val, dt_b, nI, e, e']
theorem dt_ok3 (on : Bool) (a b x y : Int32) : dt_ok on true a b x y (dt_rm a (dt_l2 on a b x y)) := by
  by_cases e : a = b
  · subst e
    cases on
    · refine ⟨?_, ?_, ?_, ?_⟩ <;> simp [dt_rm, dt_l2, dt_f, dt_s, dt_gv, dt_cnt, dt_has, dt_val, dt_b, nI]
    · refine ⟨?_, ?_, ?_, ?_⟩ <;> simp [dt_rm, dt_l2, dt_f, dt_s, dt_gv, dt_cnt, dt_has, dt_val, dt_b, nI]
  · have e' : ¬ b = a := fun z => e z.symm
    cases on
    · refine ⟨?_, ?_, ?_, ?_⟩ <;> simp [dt_rm, dt_l2, dt_f, dt_s, dt_gv, dt_cnt, dt_has, dt_val, dt_b, nI, e, e']
    · refine ⟨?_, ?_, ?_, ?_⟩ <;> simp [dt_rm, dt_l2, dt_f, dt_s, dt_gv, dt_cnt, dt_has, dt_val, dt_b, nI, e, e']
/-- which changes put -/
def dt_o (on : Bool) : Nat → Bool
  | 0 => true
  | 1 => on
  | _ => false
theorem dt_run2 (on : Bool) (a b x y : Int32) (b20 b21 : Nat → Int32) (h0 : b20 0 = a) (h1 : b20 1 = b) (k0 : b21 0 = x) (k1 : b21 1 = y) : dt_run (dt_o on) b20 b21 ((true, b, 77) :: []) 2 = dt_l2 on a b x y := by
  rw [dt_run_s, dt_run_s]
  show (if on = true then _ else _) = _
  have e0 : (if dt_o on 0 = true then (true, b20 0, b21 0) :: dt_run (dt_o on) b20 b21 [(true, b, 77)] 0 else dt_rm (b20 0) (dt_run (dt_o on) b20 b21 [(true, b, 77)] 0)) = (true, a, x) :: (true, b, 77) :: [] := by
    rw [if_pos (show dt_o on 0 = true from rfl), h0, k0]
    rfl
  rw [e0, h1, k1]
  cases on
  · rw [if_neg (by decide)]
    unfold dt_rm
    rw [if_pos (by by_cases e : a = b <;> simp [dt_has, e])]
    rfl
  · rfl
section
variable {mc ms kc ks : Nat} {x y a b n : Int32} {l : List (Bool × Int32 × Int32)} {b19 b20 b21 : Nat → Int32} {en fr ic il ix ga ge st : Int32} {a1 a2 a3 a4 a5 a6 a7 a8 a9 a10 a11 a12 a13 a14 a15 a16 a17 a18 a19 a20 a21 : Nat → Int32}
theorem dt_law303 (z : Int32) (h : dt_S l (nI (dt_cnt l)) (nI 0) b19 b20 b21 (en, fr, ic, il, ix, ga, ge, st, a1, a2, a3, a4, a5, a6, a7, a8, a9, a10, a11, a12, a13, a14, a15, a16, a17, a18, a19, a20, a21)) (hl : l.length ≤ 4) (hn : nI (dt_cnt l) = n) : wL_lawOf_303 (fun r _ => r = 1) mc ms n z z kc ks en fr ic il ix ga ge st a1 a2 a3 a4 a5 a6 a7 a8 a9 a10 a11 a12 a13 a14 a15 a16 a17 a18 a19 a20 a21 := by
  refine br_t rfl (dt_commit (t := 0) (o := fun _ => true) h (fun j hj => absurd hj (by omega)) (fun j hj => absurd hj (by omega)) (by omega) (fun u hu => ?_))
  obtain ⟨en1, fr1, ic1, il1, ix1, ga1, ge1, st1, a11, a21, a31, a41, a51, a61, a71, a81, a91, a101, a111, a121, a131, a141, a151, a161, a171, a181, a191, a201, a211⟩ := u
  refine br_t hn (dt_count hu hl (fun u' => ?_))
  obtain ⟨en2, fr2, ic2, il2, ix2, ga2, ge2, st2, a12, a22, a32, a42, a52, a62, a72, a82, a92, a102, a112, a122, a132, a142, a152, a162, a172, a182, a192, a202, a212⟩ := u'
  exact br_t hn rfl
theorem dt_law269 (f : Bool) (z : Int32) (h : dt_S l (nI (dt_cnt l)) (nI 0) b19 b20 b21 (en, fr, ic, il, ix, ga, ge, st, a1, a2, a3, a4, a5, a6, a7, a8, a9, a10, a11, a12, a13, a14, a15, a16, a17, a18, a19, a20, a21)) (hl : l.length ≤ 4) (hn : nI (dt_cnt l) = n) (ha : 0 ≤ a ∧ a ≤ 4095) (hg : dt_gv a l = if f = true then (if a = b then y else x) else 0) : wL_lawOf_269 (fun r _ => r = 1) mc ms x y a b (dt_b f) n z z kc ks en fr ic il ix ga ge st a1 a2 a3 a4 a5 a6 a7 a8 a9 a10 a11 a12 a13 a14 a15 a16 a17 a18 a19 a20 a21 := by
  refine br_t rfl (dt_get h (by omega) ha ?_)
  rw [hg]
  cases f
  · rw [if_neg (by decide)]
    exact br_t rfl (dt_law303 0 h hl hn)
  · rw [if_pos rfl]
    by_cases e : a = b
    · rw [if_pos e]
      exact br_f (by decide) (br_t e (dt_law303 y h hl hn))
    · rw [if_neg e]
      exact br_f (by decide) (br_f e (dt_law303 x h hl hn))
theorem dt_law248 (f s : Bool) (z : Int32) (h : dt_S l (nI (dt_cnt l)) (nI 0) b19 b20 b21 (en, fr, ic, il, ix, ga, ge, st, a1, a2, a3, a4, a5, a6, a7, a8, a9, a10, a11, a12, a13, a14, a15, a16, a17, a18, a19, a20, a21)) (hl : l.length ≤ 4) (hn : nI (dt_cnt l) = n) (ha : 0 ≤ a ∧ a ≤ 4095) (hb : 0 ≤ b ∧ b ≤ 4095) (hs : dt_gv b l = if s = true then y else 0) (hg : dt_gv a l = if f = true then (if a = b then y else x) else 0) : wL_lawOf_248 (fun r _ => r = 1) mc ms x y a b (dt_b f) (dt_b s) n z z kc ks en fr ic il ix ga ge st a1 a2 a3 a4 a5 a6 a7 a8 a9 a10 a11 a12 a13 a14 a15 a16 a17 a18 a19 a20 a21 := by
  refine br_t rfl (dt_get h (by omega) hb ?_)
  rw [hs]
  cases s
  · rw [if_neg (by decide)]
    exact br_t rfl (dt_law269 f 0 h hl hn ha hg)
  · rw [if_pos rfl]
    exact br_f (by decide) (dt_law269 f y h hl hn ha hg)
theorem dt_law219 {l0 : List (Bool × Int32 × Int32)} {t : Nat} {o : Nat → Bool} (f s : Bool) (h : dt_S l0 (nI (dt_cnt l0)) (nI t) b19 b20 b21 (en, fr, ic, il, ix, ga, ge, st, a1, a2, a3, a4, a5, a6, a7, a8, a9, a10, a11, a12, a13, a14, a15, a16, a17, a18, a19, a20, a21)) (hb : ∀ j, j < t → b19 j = dt_b (o j)) (hq : ∀ j, j < t → 0 ≤ b20 j ∧ b20 j ≤ 4095) (hl : l0.length + t ≤ 4) (el : dt_run o b20 b21 l0 t = l) (ha : 0 ≤ a ∧ a ≤ 4095) (hbk : 0 ≤ b ∧ b ≤ 4095)
    (hn : nI (dt_cnt l) = n) (hf : dt_has a l = f) (hs : dt_gv b l = if s = true then y else 0) (hg : dt_gv a l = if f = true then (if a = b then y else x) else 0) :
    wL_lawOf_219 (fun r _ => r = 1) mc ms x y a b (dt_b f) (dt_b s) n kc ks en fr ic il ix ga ge st a1 a2 a3 a4 a5 a6 a7 a8 a9 a10 a11 a12 a13 a14 a15 a16 a17 a18 a19 a20 a21 := by
  have hll := dt_run_len o b20 b21 l0 t
  rw [el] at hll
  refine dt_commit h hb hq hl (fun u hu => ?_)
  rw [el] at hu ⊢
  obtain ⟨en1, fr1, ic1, il1, ix1, ga1, ge1, st1, a11, a21, a31, a41, a51, a61, a71, a81, a91, a101, a111, a121, a131, a141, a151, a161, a171, a181, a191, a201, a211⟩ := u
  refine br_t hn (dt_hasW hu (by omega) ha ?_)
  rw [hf]
  cases f
  · exact br_t rfl (dt_law248 false s 0 hu (by omega) hn ha hbk hs hg)
  · exact br_f (by decide) (dt_law248 true s 1 hu (by omega) hn ha hbk hs hg)
theorem dt_law176 {P : Int32 → St0 → Prop} (f s : Bool) (G : wL_lawOf_219 P mc ms x y a b (dt_b f) (dt_b s) (if a = b then dt_b f else dt_b f + dt_b s) kc ks en fr ic il ix ga ge st a1 a2 a3 a4 a5 a6 a7 a8 a9 a10 a11 a12 a13 a14 a15 a16 a17 a18 a19 a20 a21) : wL_lawOf_176 P mc ms x y a b (dt_b f) (dt_b s) kc ks en fr ic il ix ga ge st a1 a2 a3 a4 a5 a6 a7 a8 a9 a10 a11 a12 a13 a14 a15 a16 a17 a18 a19 a20 a21 := by
  by_cases e : a = b
  · rw [if_pos e] at G
    cases f
    · exact br_t e (br_t rfl G)
    · exact br_t e (br_f (by decide) G)
  · rw [if_neg e] at G
    cases f
    · cases s
      · exact br_f e (br_t rfl (br_t rfl G))
      · exact br_f e (br_t rfl (br_f (by decide) G))
    · cases s
      · exact br_f e (br_f (by decide) (br_t rfl G))
      · exact br_f e (br_f (by decide) (br_f (by decide) G))
theorem dt_law152 {P : Int32 → St0 → Prop} (on off f : Bool) (G : wL_lawOf_176 P mc ms x y a b (dt_b f) (dt_b (dt_s on off a b)) kc ks en fr ic il ix ga ge st a1 a2 a3 a4 a5 a6 a7 a8 a9 a10 a11 a12 a13 a14 a15 a16 a17 a18 a19 a20 a21) : wL_lawOf_152 P mc ms x y a b (dt_b on) (dt_b off) (dt_b f) kc ks en fr ic il ix ga ge st a1 a2 a3 a4 a5 a6 a7 a8 a9 a10 a11 a12 a13 a14 a15 a16 a17 a18 a19 a20 a21 := by
  cases on
  · exact br_t rfl G
  · by_cases e : a = b
    · cases off
      · rw [show dt_s true false a b = true by simp [dt_s]] at G
        exact br_f (by decide) (br_t e (br_t rfl G))
      · rw [show dt_s true true a b = false by simp [dt_s, e]] at G
        exact br_f (by decide) (br_t e (br_f (by decide) G))
    · rw [show dt_s true off a b = true by simp [dt_s, e]] at G
      exact br_f (by decide) (br_f e G)
theorem dt_law125 {P : Int32 → St0 → Prop} (on off : Bool) (z : Int32) (G : wL_lawOf_152 P mc ms x y a b (dt_b on) (dt_b off) (dt_b (dt_f on off a b)) kc ks en fr ic il ix ga ge st a1 a2 a3 a4 a5 a6 a7 a8 a9 a10 a11 a12 a13 a14 a15 a16 a17 a18 a19 a20 a21) : wL_lawOf_125 P mc ms x y a b (dt_b on) (dt_b off) z z kc ks en fr ic il ix ga ge st a1 a2 a3 a4 a5 a6 a7 a8 a9 a10 a11 a12 a13 a14 a15 a16 a17 a18 a19 a20 a21 := by
  refine br_t rfl ?_
  cases off
  · refine br_t rfl ?_
    by_cases e : a = b
    · cases on
      · rw [show dt_f false false a b = false by simp [dt_f, e]] at G
        exact br_t e (br_t rfl G)
      · rw [show dt_f true false a b = true by simp [dt_f]] at G
        exact br_t e (br_f (by decide) G)
    · rw [show dt_f on false a b = true by simp [dt_f, e]] at G
      exact br_f e G
  · rw [show dt_f on true a b = false by simp [dt_f]] at G
    exact br_f (by decide) G
theorem dt_law105 {t : Nat} (on off : Bool) (h : dt_S ((true, b, 77) :: []) (nI (dt_cnt ((true, b, 77) :: []))) (nI t) b19 b20 b21 (en, fr, ic, il, ix, ga, ge, st, a1, a2, a3, a4, a5, a6, a7, a8, a9, a10, a11, a12, a13, a14, a15, a16, a17, a18, a19, a20, a21)) (hb : ∀ j, j < t → b19 j = dt_b (dt_o on j)) (hq : ∀ j, j < t → 0 ≤ b20 j ∧ b20 j ≤ 4095) (ht : t ≤ 3) (ha : 0 ≤ a ∧ a ≤ 4095) (hbk : 0 ≤ b ∧ b ≤ 4095) (el : dt_run (dt_o on) b20 b21 ((true, b, 77) :: []) t = l) (hk : dt_ok on off a b x y l) :
    wL_lawOf_105 (fun r _ => r = 1) mc ms x y a b (dt_b on) (dt_b off) kc ks en fr ic il ix ga ge st a1 a2 a3 a4 a5 a6 a7 a8 a9 a10 a11 a12 a13 a14 a15 a16 a17 a18 a19 a20 a21 := by
  obtain ⟨hn, hf, hs, hg⟩ := hk
  have G : ∀ z : Int32, wL_lawOf_125 (fun r _ => r = 1) mc ms x y a b (dt_b on) (dt_b off) z z kc ks en fr ic il ix ga ge st a1 a2 a3 a4 a5 a6 a7 a8 a9 a10 a11 a12 a13 a14 a15 a16 a17 a18 a19 a20 a21 := fun z => dt_law125 on off z (dt_law152 on off _ (dt_law176 _ _ (dt_law219 _ _ h hb hq (by rw [List.length_cons, List.length_nil]; omega) el ha hbk hn hf hs hg)))
  refine dt_get h (by rw [List.length_cons, List.length_nil]; omega) ha ?_
  by_cases e : a = b
  · rw [show dt_gv a ((true, b, 77) :: []) = 77 by simp [dt_gv, dt_has, dt_val, e]]
    exact br_t e (G 77)
  · have e' : ¬ b = a := fun z => e z.symm
    rw [show dt_gv a ((true, b, 77) :: []) = 0 by simp [dt_gv, dt_has, e']]
    exact br_f e (G 0)
theorem dt_law47 (on off : Bool) (h : dt_S [] (nI (dt_cnt [])) (nI 0) b19 b20 b21 (en, fr, ic, il, ix, ga, ge, st, a1, a2, a3, a4, a5, a6, a7, a8, a9, a10, a11, a12, a13, a14, a15, a16, a17, a18, a19, a20, a21)) (ha : 0 ≤ a ∧ a ≤ 4095) (hb : 0 ≤ b ∧ b ≤ 4095) : wL_lawOf_47 (fun r _ => r = 1) mc ms x y a b (dt_b on) (dt_b off) kc ks en fr ic il ix ga ge st a1 a2 a3 a4 a5 a6 a7 a8 a9 a10 a11 a12 a13 a14 a15 a16 a17 a18 a19 a20 a21 := by
  refine dt_put h (by decide) hb (fun r u hu => ?_)
  obtain ⟨en1, fr1, ic1, il1, ix1, ga1, ge1, st1, a11, a21, a31, a41, a51, a61, a71, a81, a91, a101, a111, a121, a131, a141, a151, a161, a171, a181, a191, a201, a211⟩ := u
  refine dt_stage true hu (by omega) ha (fun u hu => ?_)
  obtain ⟨en2, fr2, ic2, il2, ix2, ga2, ge2, st2, a12, a22, a32, a42, a52, a62, a72, a82, a92, a102, a112, a122, a132, a142, a152, a162, a172, a182, a192, a202, a212⟩ := u
  refine br_t rfl (dt_stage on hu (by omega) hb (fun u hu => ?_))
  obtain ⟨en3, fr3, ic3, il3, ix3, ga3, ge3, st3, a13, a23, a33, a43, a53, a63, a73, a83, a93, a103, a113, a123, a133, a143, a153, a163, a173, a183, a193, a203, a213⟩ := u
  refine br_t rfl ?_
  cases off
  · refine br_t rfl (dt_law105 on false hu (fun j hj => ?_) (fun j hj => ?_) (by omega) ha hb (dt_run2 on a b x y _ _ ?_ ?_ ?_ ?_) (dt_ok2 on a b x y))
    · rcases j with _ | _ | j
      · rw [pk_un (by omega), pk_us]; rfl
      · rw [pk_us]; rfl
      · omega
    · rcases j with _ | _ | j
      · rw [pk_un (by omega), pk_us]; exact ha
      · rw [pk_us]; exact hb
      · omega
    · rw [pk_un (by omega), pk_us]
    · rw [pk_us]
    · rw [pk_un (by omega), pk_us]
    · rw [pk_us]
  · refine br_f (by decide) (dt_stage false hu (by omega) ha (fun u hu => ?_))
    obtain ⟨en4, fr4, ic4, il4, ix4, ga4, ge4, st4, a14, a24, a34, a44, a54, a64, a74, a84, a94, a104, a114, a124, a134, a144, a154, a164, a174, a184, a194, a204, a214⟩ := u
    refine br_t rfl (dt_law105 on true hu (fun j hj => ?_) (fun j hj => ?_) (by omega) ha hb ?_ (dt_ok3 on a b x y))
    · rcases j with _ | _ | _ | j
      · rw [pk_un (by omega), pk_un (by omega), pk_us]; rfl
      · rw [pk_un (by omega), pk_us]; rfl
      · rw [pk_us]; rfl
      · omega
    · rcases j with _ | _ | _ | j
      · rw [pk_un (by omega), pk_un (by omega), pk_us]; exact ha
      · rw [pk_un (by omega), pk_us]; exact hb
      · rw [pk_us]; exact ha
      · omega
    · rw [dt_run_s, if_neg (show ¬ dt_o on 2 = true by simp [dt_o]), dt_run2 on a b x y, pk_us]
      · rw [pk_un (by omega), pk_un (by omega), pk_us]
      · rw [pk_un (by omega), pk_us]
      · rw [pk_un (by omega), pk_un (by omega), pk_us]
      · rw [pk_un (by omega), pk_us]
end
theorem dt_lawOf (p0 p1 p2 p3 p4 : Int32) : wpL_lawOf (fun r _ => r = 1) 22 1591 () p0 p1 p2 p3 p4 := by
  obtain ⟨ja, hja, ea⟩ := pk_andE p0 (m := 4095) 12 (by decide)
  obtain ⟨jb, hjb, eb⟩ := pk_andE p1 (m := 4095) 12 (by decide)
  have ha : 0 ≤ nI ja ∧ nI ja ≤ 4095 := ⟨nI_pos' (by omega), nI_le (b := 4095) (by omega) (by omega)⟩
  have hb : 0 ≤ nI jb ∧ nI jb ≤ 4095 := ⟨nI_pos' (by omega), nI_le (b := 4095) (by omega) (by omega)⟩
  refine ⟨by decide, by decide, 21, 1562, by decide, by decide, dt_init (fun u hu => ?_)⟩
  obtain ⟨en, fr, ic, il, ix, ga, ge, st, a1, a2, a3, a4, a5, a6, a7, a8, a9, a10, a11, a12, a13, a14, a15, a16, a17, a18, a19, a20, a21⟩ := u
  refine nm_r ea (nm_r eb (br_c (fun _ => br_c (fun _ => ?_) (fun _ => ?_)) (fun _ => br_c (fun _ => ?_) (fun _ => ?_))))
  · exact dt_law47 true false hu ha hb
  · exact dt_law47 true true hu ha hb
  · exact dt_law47 false false hu ha hb
  · exact dt_law47 false true hu ha hb
theorem dt_cell {post : Int32 → Prop} {xs : Nat → Int32} {L : Nat} (i : Nat) {p : Int32} (hL : L ≤ 5) (hi : i ≤ 5) (hp : p = nI i) (H : ∀ r, post r) : wpL_cellAt post L xs () p :=
  pk_le L i (fun _ => H _) (fun z => ⟨pk_in i L z hp (by omega), H _⟩) rfl hp (by omega) (by omega)
theorem i_vc (xs : Nat → Int32) (L : Nat) (hL : L ≤ 5) : wpL_law (fun r => r = 1) L xs :=
  dt_cell 0 hL (by omega) rfl (fun r1 => dt_cell 1 hL (by omega) rfl (fun r2 => dt_cell 2 hL (by omega) rfl (fun r3 => dt_cell 3 hL (by omega) rfl (fun r4 => dt_cell 4 hL (by omega) rfl (fun r5 => ⟨22, 1591, by decide, by decide, dt_lawOf r1 r2 r3 r4 r5⟩)))))
end

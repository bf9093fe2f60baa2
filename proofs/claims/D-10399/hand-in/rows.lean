section
def gc_val (p : Int64) : Int32 := ((p &&& 4294967295) - 2147483648).toInt32
def gc_is {α : Type} (f : α → Int32) : List α → Int32
  | [] => 0
  | x :: l => f x + gc_is f l
theorem gc_is_nil {α : Type} (f : α → Int32) : gc_is f [] = 0 := rfl
theorem gc_is_cons {α : Type} (f : α → Int32) (x : α) (l : List α) : gc_is f (x :: l) = f x + gc_is f l := rfl
theorem gc_is_app {α : Type} (f : α → Int32) (l m : List α) : gc_is f (l ++ m) = gc_is f l + gc_is f m := by
  induction l with
  | nil => simp [gc_is]
  | cons x l ih => simp [gc_is, ih, Int32.add_assoc]
def gc_w (c : Int64 × Int32) : Int32 := c.2
def gc_o (c : Int64 × Int32) : Int32 := 1
def gc_s (c : Int64 × Int32) : Int32 := c.2 * gc_val c.1
def gc_tot : List (Int64 × Int32) → Nat
  | [] => 0
  | c :: l => c.2.toNatClampNeg + gc_tot l
theorem gc_tot_nil : gc_tot [] = 0 := rfl
theorem gc_tot_cons (c : Int64 × Int32) (l : List (Int64 × Int32)) : gc_tot (c :: l) = c.2.toNatClampNeg + gc_tot l := rfl
theorem gc_tot_app (l m : List (Int64 × Int32)) : gc_tot (l ++ m) = gc_tot l + gc_tot m := by
  induction l with
  | nil => simp [gc_tot]
  | cons x l ih => simp [gc_tot, ih, Nat.add_assoc]
def gc_pos (C : List (Int64 × Int32)) : Prop := ∀ c, c ∈ C → ∃ t : Nat, 1 ≤ t ∧ t ≤ 40 ∧ c.2 = nI t
theorem gc_pos_w {c : Int64 × Int32} (h : ∃ t : Nat, 1 ≤ t ∧ t ≤ 40 ∧ c.2 = nI t) : c.2 = nI c.2.toNatClampNeg ∧ 1 ≤ c.2.toNatClampNeg := by
  obtain ⟨t, h1, h2, h3⟩ := h
  rw [h3, nI_clamp (by omega)]
  exact ⟨rfl, h1⟩
theorem gc_is_tot (C : List (Int64 × Int32)) (h : gc_pos C) : gc_is gc_w C = nI (gc_tot C) := by
  induction C with
  | nil => rfl
  | cons c C ih =>
    have h1 := (gc_pos_w (h c (by simp))).1
    have h2 := ih (fun d hd => h d (by simp [hd]))
    rw [gc_is_cons, gc_tot_cons, h2]
    show c.2 + _ = _
    rw [← nI_add, ← h1]
theorem gc_len_tot (C : List (Int64 × Int32)) (h : gc_pos C) : C.length ≤ gc_tot C := by
  induction C with
  | nil => exact Nat.le_refl _
  | cons c C ih =>
    have h1 := (gc_pos_w (h c (by simp))).2
    have h2 := ih (fun d hd => h d (by simp [hd]))
    rw [gc_tot_cons, List.length_cons]
    omega
theorem gc_pos_fil {C : List (Int64 × Int32)} (h : gc_pos C) (q : Int64 × Int32 → Bool) : gc_pos (C.filter q) :=
  fun c hc => h c (List.mem_filter.mp hc).1
theorem gc_tot_fil (C : List (Int64 × Int32)) (q : Int64 × Int32 → Bool) : gc_tot (C.filter q) + gc_tot (C.filter (fun c => !q c)) = gc_tot C := by
  induction C with
  | nil => rfl
  | cons c C ih =>
    rw [gc_tot_cons]
    cases e : q c <;> simp [List.filter_cons, e, gc_tot_cons] <;> omega
theorem gc_is_len (C : List (Int64 × Int32)) : gc_is gc_o C = nI C.length := by
  induction C with
  | nil => rfl
  | cons c C ih =>
    rw [gc_is_cons, ih, List.length_cons]
    show 1 + nI C.length = _
    rw [Int32.add_comm, nI_1]
def gc_rk : List (Int64 × Int32) → Nat → Int64
  | [], _ => 0
  | c :: l, j => if j < c.2.toNatClampNeg then c.1 else gc_rk l (j - c.2.toNatClampNeg)
theorem gc_rk_lt {l m : List (Int64 × Int32)} {j : Nat} (h : j < gc_tot l) : gc_rk (l ++ m) j = gc_rk l j := by
  induction l generalizing j with
  | nil => exact absurd h (by simp [gc_tot])
  | cons c l ih =>
    rw [gc_tot_cons] at h
    show (if j < c.2.toNatClampNeg then c.1 else gc_rk (l ++ m) (j - c.2.toNatClampNeg)) = (if j < c.2.toNatClampNeg then c.1 else gc_rk l (j - c.2.toNatClampNeg))
    by_cases e : j < c.2.toNatClampNeg
    · rw [if_pos e, if_pos e]
    · rw [if_neg e, if_neg e]
      exact ih (by omega)
theorem gc_rk_ge {l m : List (Int64 × Int32)} {j : Nat} (h : gc_tot l ≤ j) : gc_rk (l ++ m) j = gc_rk m (j - gc_tot l) := by
  induction l generalizing j with
  | nil => rfl
  | cons c l ih =>
    rw [gc_tot_cons] at h
    show (if j < c.2.toNatClampNeg then c.1 else gc_rk (l ++ m) (j - c.2.toNatClampNeg)) = _
    rw [if_neg (by omega), ih (by omega), gc_tot_cons]
    congr 1
    omega
theorem gc_rk_mem {l : List (Int64 × Int32)} {j : Nat} (h : j < gc_tot l) : ∃ c, c ∈ l ∧ c.1 = gc_rk l j := by
  induction l generalizing j with
  | nil => exact absurd h (by simp [gc_tot])
  | cons c l ih =>
    rw [gc_tot_cons] at h
    show ∃ d, d ∈ c :: l ∧ d.1 = (if j < c.2.toNatClampNeg then c.1 else gc_rk l (j - c.2.toNatClampNeg))
    by_cases e : j < c.2.toNatClampNeg
    · rw [if_pos e]
      exact ⟨c, by simp, rfl⟩
    · rw [if_neg e]
      obtain ⟨d, h1, h2⟩ := ih (j := j - c.2.toNatClampNeg) (by omega)
      exact ⟨d, by simp [h1], h2⟩
def gc_so (C : List (Int64 × Int32)) : Prop := C.Pairwise (fun c d => c.1 < d.1)
def gc_bl (p : Int64) (c : Int64 × Int32) : Bool := decide (¬ p ≤ c.1)
def gc_gk (s e : Int64) (c : Int64 × Int32) : Bool := decide (s ≤ c.1 ∧ ¬ e ≤ c.1)
theorem gc_so_mid {X Y : List (Int64 × Int32)} {c : Int64 × Int32} (h : gc_so (X ++ c :: Y)) : gc_so X ∧ gc_so Y ∧ (∀ d, d ∈ X → d.1 < c.1) ∧ (∀ d, d ∈ Y → c.1 < d.1) ∧ (∀ x, x ∈ X → ∀ y, y ∈ Y → x.1 < y.1) := by
  unfold gc_so at h ⊢
  rw [List.pairwise_append, List.pairwise_cons] at h
  obtain ⟨h1, ⟨h2, h3⟩, h4⟩ := h
  exact ⟨h1, h3, fun d hd => h4 d hd c (by simp), h2, fun x hx y hy => h4 x hx y (by simp [hy])⟩
theorem gc_so_mk {X Y : List (Int64 × Int32)} {c : Int64 × Int32} (h1 : gc_so X) (h2 : gc_so Y) (h3 : ∀ d, d ∈ X → d.1 < c.1) (h4 : ∀ d, d ∈ Y → c.1 < d.1) : gc_so (X ++ c :: Y) := by
  unfold gc_so at h1 h2 ⊢
  rw [List.pairwise_append, List.pairwise_cons]
  refine ⟨h1, ⟨h4, h2⟩, fun x hx y hy => ?_⟩
  rcases List.mem_cons.mp hy with e | e
  · rw [e]; exact h3 x hx
  · exact Int64.lt_trans (h3 x hx) (h4 y e)
theorem gc_bl_lt {X Y : List (Int64 × Int32)} {c : Int64 × Int32} {p : Int64} (h : gc_so (X ++ c :: Y)) (hp : ¬ p ≤ c.1) : (X ++ c :: Y).filter (gc_bl p) = X ++ c :: Y.filter (gc_bl p) := by
  obtain ⟨_, _, h3, _, _⟩ := gc_so_mid h
  rw [List.filter_append, List.filter_cons]
  have e1 : X.filter (gc_bl p) = X := by
    rw [List.filter_eq_self]
    intro d hd
    have h5 := h3 d hd
    simp only [gc_bl, decide_eq_true_eq]
    intro h6
    exact hp (Int64.le_of_lt (Int64.lt_of_le_of_lt h6 h5))
  have e2 : gc_bl p c = true := by simp only [gc_bl, decide_eq_true_eq]; exact hp
  rw [e1, e2]
  rfl
theorem gc_bl_ge {X Y : List (Int64 × Int32)} {c : Int64 × Int32} {p : Int64} (h : gc_so (X ++ c :: Y)) (hp : p ≤ c.1) : (X ++ c :: Y).filter (gc_bl p) = X.filter (gc_bl p) := by
  obtain ⟨_, _, _, h4, _⟩ := gc_so_mid h
  rw [List.filter_append]
  have e2 : (c :: Y).filter (gc_bl p) = [] := by
    rw [List.filter_eq_nil_iff]
    intro d hd
    simp only [gc_bl, decide_eq_true_eq, Classical.not_not]
    rcases List.mem_cons.mp hd with e | e
    · rw [e]; exact hp
    · exact Int64.le_trans hp (Int64.le_of_lt (h4 d e))
  rw [e2, List.append_nil]
theorem gc_split {C : List (Int64 × Int32)} {s e : Int64} (h : gc_so C) (hse : s ≤ e) : C.filter (gc_bl e) = C.filter (gc_bl s) ++ C.filter (gc_gk s e) ∧ ∃ R, C = C.filter (gc_bl s) ++ (C.filter (gc_gk s e) ++ R) := by
  induction C with
  | nil => exact ⟨rfl, [], rfl⟩
  | cons c C ih =>
    have h0 : gc_so C := (List.pairwise_cons.mp h).2
    have hc : ∀ d, d ∈ C → c.1 < d.1 := (List.pairwise_cons.mp h).1
    obtain ⟨i1, R, i2⟩ := ih h0
    have z : ∀ t, t ≤ c.1 → (c :: C).filter (gc_bl t) = [] := fun t ht => by
      have := gc_bl_ge (X := []) (Y := C) (c := c) (p := t) h ht
      simpa using this
    by_cases g : s ≤ c.1
    · have zs := z s g
      by_cases g2 : e ≤ c.1
      · have ze := z e g2
        have zk : (c :: C).filter (gc_gk s e) = [] := by
          rw [List.filter_eq_nil_iff]
          intro d hd
          simp only [gc_gk, decide_eq_true_eq, not_and, Classical.not_not]
          intro _
          rcases List.mem_cons.mp hd with q | q
          · rw [q]; exact g2
          · exact Int64.le_trans g2 (Int64.le_of_lt (hc d q))
        exact ⟨by rw [zs, ze, zk]; rfl, c :: C, by rw [zs, zk]; rfl⟩
      · have zs' : C.filter (gc_bl s) = [] := by
          rw [List.filter_cons] at zs
          have e2 : gc_bl s c = false := by simp only [gc_bl, decide_eq_false_iff_not, Classical.not_not]; exact g
          rw [e2] at zs
          exact zs
        have ek : gc_gk s e c = true := by simp only [gc_gk, decide_eq_true_eq]; exact ⟨g, g2⟩
        have eb : gc_bl e c = true := by simp only [gc_bl, decide_eq_true_eq]; exact g2
        rw [zs'] at i1 i2
        refine ⟨?_, R, ?_⟩
        · rw [zs, List.filter_cons, List.filter_cons, ek, eb, i1]
          rfl
        · rw [zs, List.filter_cons, ek]
          simp only [List.nil_append, if_true, List.cons_append] at i2 ⊢
          rw [← i2]
    · have es : gc_bl s c = true := by simp only [gc_bl, decide_eq_true_eq]; exact g
      have g2 : ¬ e ≤ c.1 := fun q => g (Int64.le_trans hse q)
      have eb : gc_bl e c = true := by simp only [gc_bl, decide_eq_true_eq]; exact g2
      have ek : gc_gk s e c = false := by simp only [gc_gk, decide_eq_false_iff_not]; exact fun q => g q.1
      refine ⟨?_, R, ?_⟩
      · rw [List.filter_cons, List.filter_cons, List.filter_cons, es, eb, ek]
        simp only [if_true, List.cons_append]
        rw [i1]
        rfl
      · rw [List.filter_cons, List.filter_cons, es, ek]
        simp only [if_true, List.cons_append]
        have : C = C.filter (gc_bl s) ++ (C.filter (gc_gk s e) ++ R) := i2
        exact congrArg (List.cons c) this
def gc_fd (G : List (Int64 × Int32)) (j : Nat) : Int32 :=
  if G = [] then 0 else if j = 0 then gc_is gc_w G else if j = 1 then gc_is gc_s G else if j = 2 then gc_val (gc_rk G 0) else if j = 3 then gc_val (gc_rk G (gc_tot G - 1)) else if j = 4 then gc_is gc_o G else gc_val (gc_rk G ((gc_tot G - 1) / 2))
def gc_sw (fl ce : Int32) (G : List (Int64 × Int32)) : Bool := decide (G ≠ [] ∧ ¬ gc_is gc_w G < fl ∧ ¬ ce < gc_is gc_o G)
end
section
def gc_cn (a1 : Nat → Int64) (a2 : Nat → Int32) (L : List Nat) : List (Int64 × Int32) := L.map (fun x => (a1 x, a2 x))
theorem gc_cn_nil (a1 : Nat → Int64) (a2 : Nat → Int32) : gc_cn a1 a2 [] = [] := rfl
theorem gc_cn_cons (a1 : Nat → Int64) (a2 : Nat → Int32) (x : Nat) (L : List Nat) : gc_cn a1 a2 (x :: L) = (a1 x, a2 x) :: gc_cn a1 a2 L := rfl
theorem gc_cn_app (a1 : Nat → Int64) (a2 : Nat → Int32) (L M : List Nat) : gc_cn a1 a2 (L ++ M) = gc_cn a1 a2 L ++ gc_cn a1 a2 M := List.map_append
theorem gc_cn_congr {a1 b1 : Nat → Int64} {a2 b2 : Nat → Int32} {L : List Nat} (h : ∀ x, x ∈ L → b1 x = a1 x ∧ b2 x = a2 x) : gc_cn b1 b2 L = gc_cn a1 a2 L := by
  unfold gc_cn
  apply List.map_congr_left
  intro x hx
  rw [(h x hx).1, (h x hx).2]
theorem gc_cn_mem {a1 : Nat → Int64} {a2 : Nat → Int32} {L : List Nat} {x : Nat} (h : x ∈ L) : (a1 x, a2 x) ∈ gc_cn a1 a2 L := List.mem_map.mpr ⟨x, h, rfl⟩
theorem gc_cn_len (a1 : Nat → Int64) (a2 : Nat → Int32) (L : List Nat) : (gc_cn a1 a2 L).length = L.length := List.length_map _
def gc_fa (a1 : Nat → Int64) (a2 a5 a6 a7 a8 : Nat → Int32) (h n : Nat) (L : List Nat) : Prop :=
  n ≤ 40 ∧ a5 n = nI h ∧ a6 n = gc_is gc_w (gc_cn a1 a2 L) ∧ a7 n = gc_is gc_o (gc_cn a1 a2 L) ∧ a8 n = gc_is gc_s (gc_cn a1 a2 L)
def gc_sub (a1 : Nat → Int64) (a2 a3 a4 a5 a6 a7 a8 : Nat → Int32) : Nat → Nat → List Nat → Prop
  | 0, n, L => n = 0 ∧ L = [] ∧ gc_fa a1 a2 a5 a6 a7 a8 0 0 []
  | h + 1, n, L => ∃ (l r hl hr : Nat) (L1 L2 : List Nat), ∃ _ : h = max hl hr, 1 ≤ n ∧ n ≤ 40 ∧ a3 n = nI l ∧ a4 n = nI r ∧ L = L1 ++ n :: L2 ∧ hl ≤ hr + 1 ∧ hr ≤ hl + 1 ∧ gc_fa a1 a2 a5 a6 a7 a8 (h + 1) n L ∧ gc_sub a1 a2 a3 a4 a5 a6 a7 a8 hl l L1 ∧ gc_sub a1 a2 a3 a4 a5 a6 a7 a8 hr r L2
termination_by h => h
decreasing_by all_goals omega
theorem gc_sub0 {a1 : Nat → Int64} {a2 a3 a4 a5 a6 a7 a8 : Nat → Int32} {n : Nat} {L : List Nat} : gc_sub a1 a2 a3 a4 a5 a6 a7 a8 0 n L ↔ n = 0 ∧ L = [] ∧ gc_fa a1 a2 a5 a6 a7 a8 0 0 [] := by
  rw [gc_sub]
theorem gc_subS {a1 : Nat → Int64} {a2 a3 a4 a5 a6 a7 a8 : Nat → Int32} {h n : Nat} {L : List Nat} : gc_sub a1 a2 a3 a4 a5 a6 a7 a8 (h + 1) n L ↔ ∃ (l r hl hr : Nat) (L1 L2 : List Nat), ∃ _ : h = max hl hr, 1 ≤ n ∧ n ≤ 40 ∧ a3 n = nI l ∧ a4 n = nI r ∧ L = L1 ++ n :: L2 ∧ hl ≤ hr + 1 ∧ hr ≤ hl + 1 ∧ gc_fa a1 a2 a5 a6 a7 a8 (h + 1) n L ∧ gc_sub a1 a2 a3 a4 a5 a6 a7 a8 hl l L1 ∧ gc_sub a1 a2 a3 a4 a5 a6 a7 a8 hr r L2 := by
  rw [gc_sub]
theorem gc_sub_fa {a1 : Nat → Int64} {a2 a3 a4 a5 a6 a7 a8 : Nat → Int32} {h n : Nat} {L : List Nat} (s : gc_sub a1 a2 a3 a4 a5 a6 a7 a8 h n L) : gc_fa a1 a2 a5 a6 a7 a8 h n L := by
  cases h with
  | zero =>
    obtain ⟨rfl, rfl, f⟩ := gc_sub0.mp s
    exact f
  | succ h =>
    obtain ⟨l, r, hl, hr, L1, L2, e, h1, h2, h3, h4, h5, h6, h7, f, s1, s2⟩ := gc_subS.mp s
    exact f
theorem gc_sub_z {a1 : Nat → Int64} {a2 a3 a4 a5 a6 a7 a8 : Nat → Int32} {h : Nat} {L : List Nat} (s : gc_sub a1 a2 a3 a4 a5 a6 a7 a8 h 0 L) : h = 0 ∧ L = [] := by
  cases h with
  | zero => exact ⟨rfl, (gc_sub0.mp s).2.1⟩
  | succ h =>
    obtain ⟨l, r, hl, hr, L1, L2, e, h1, _⟩ := gc_subS.mp s
    exact absurd h1 (by omega)
theorem gc_sub_nz {a1 : Nat → Int64} {a2 a3 a4 a5 a6 a7 a8 : Nat → Int32} {h n : Nat} {L : List Nat} (s : gc_sub a1 a2 a3 a4 a5 a6 a7 a8 h n L) (hn : n ≠ 0) : ∃ (l r hl hr : Nat) (L1 L2 : List Nat), h = max hl hr + 1 ∧ 1 ≤ n ∧ n ≤ 40 ∧ a3 n = nI l ∧ a4 n = nI r ∧ L = L1 ++ n :: L2 ∧ hl ≤ hr + 1 ∧ hr ≤ hl + 1 ∧ gc_fa a1 a2 a5 a6 a7 a8 h n L ∧ gc_sub a1 a2 a3 a4 a5 a6 a7 a8 hl l L1 ∧ gc_sub a1 a2 a3 a4 a5 a6 a7 a8 hr r L2 := by
  cases h with
  | zero => exact absurd (gc_sub0.mp s).1 hn
  | succ h =>
    obtain ⟨l, r, hl, hr, L1, L2, e, h1, h2, h3, h4, h5, h6, h7, f, s1, s2⟩ := gc_subS.mp s
    exact ⟨l, r, hl, hr, L1, L2, by omega, h1, h2, h3, h4, h5, h6, h7, f, s1, s2⟩
theorem gc_sub_mk {a1 : Nat → Int64} {a2 a3 a4 a5 a6 a7 a8 : Nat → Int32} {n l r hl hr : Nat} {L1 L2 : List Nat} (h1 : 1 ≤ n) (h2 : n ≤ 40) (h3 : a3 n = nI l) (h4 : a4 n = nI r) (h6 : hl ≤ hr + 1) (h7 : hr ≤ hl + 1) (f : gc_fa a1 a2 a5 a6 a7 a8 (max hl hr + 1) n (L1 ++ n :: L2)) (s1 : gc_sub a1 a2 a3 a4 a5 a6 a7 a8 hl l L1) (s2 : gc_sub a1 a2 a3 a4 a5 a6 a7 a8 hr r L2) : gc_sub a1 a2 a3 a4 a5 a6 a7 a8 (max hl hr + 1) n (L1 ++ n :: L2) :=
  gc_subS.mpr ⟨l, r, hl, hr, L1, L2, rfl, h1, h2, h3, h4, rfl, h6, h7, f, s1, s2⟩
theorem gc_sub_zf {a1 : Nat → Int64} {a2 a3 a4 a5 a6 a7 a8 : Nat → Int32} {h n : Nat} {L : List Nat} (s : gc_sub a1 a2 a3 a4 a5 a6 a7 a8 h n L) : gc_fa a1 a2 a5 a6 a7 a8 0 0 [] := by
  induction h using Nat.strongRecOn generalizing n L with
  | ind h ih =>
    cases h with
    | zero => exact (gc_sub0.mp s).2.2
    | succ h =>
      obtain ⟨l, r, hl, hr, L1, L2, e, h1, h2, h3, h4, h5, h6, h7, f, s1, s2⟩ := gc_subS.mp s
      exact ih hl (by omega) s1
theorem gc_sub_mem {a1 : Nat → Int64} {a2 a3 a4 a5 a6 a7 a8 : Nat → Int32} {h n : Nat} {L : List Nat} (s : gc_sub a1 a2 a3 a4 a5 a6 a7 a8 h n L) : n = 0 ∨ n ∈ L := by
  rcases Nat.eq_zero_or_pos n with e | e
  · exact Or.inl e
  · obtain ⟨l, r, hl, hr, L1, L2, _, _, _, _, _, rfl, _⟩ := gc_sub_nz s (by omega)
    exact Or.inr (by simp)
theorem gc_sub_rng {a1 : Nat → Int64} {a2 a3 a4 a5 a6 a7 a8 : Nat → Int32} {h n : Nat} {L : List Nat} (s : gc_sub a1 a2 a3 a4 a5 a6 a7 a8 h n L) : ∀ x, x ∈ L → 1 ≤ x ∧ x ≤ 40 := by
  induction h using Nat.strongRecOn generalizing n L with
  | ind h ih =>
    cases h with
    | zero =>
      obtain ⟨_, rfl, _⟩ := gc_sub0.mp s
      intro x hx
      exact absurd hx (by simp)
    | succ h =>
      obtain ⟨l, r, hl, hr, L1, L2, e, h1, h2, h3, h4, rfl, h6, h7, f, s1, s2⟩ := gc_subS.mp s
      intro x hx
      rcases List.mem_append.mp hx with q | q
      · exact ih hl (by omega) s1 x q
      · rcases List.mem_cons.mp q with q | q
        · rw [q]; exact ⟨h1, h2⟩
        · exact ih hr (by omega) s2 x q
theorem gc_fa_congr {a1 b1 : Nat → Int64} {a2 a5 a6 a7 a8 b2 b5 b6 b7 b8 : Nat → Int32} {h n : Nat} {L : List Nat} (hL : ∀ x, x ∈ L → b1 x = a1 x ∧ b2 x = a2 x) (h5 : b5 n = a5 n) (h6 : b6 n = a6 n) (h7 : b7 n = a7 n) (h8 : b8 n = a8 n) (f : gc_fa a1 a2 a5 a6 a7 a8 h n L) : gc_fa b1 b2 b5 b6 b7 b8 h n L := by
  unfold gc_fa at f ⊢
  rw [h5, h6, h7, h8, gc_cn_congr hL]
  exact f
theorem gc_sub_congr {a1 : Nat → Int64} {a2 a3 a4 a5 a6 a7 a8 : Nat → Int32} {b1 : Nat → Int64} {b2 b3 b4 b5 b6 b7 b8 : Nat → Int32} {h n : Nat} {L : List Nat} (hz : ∀ x, x = 0 ∨ x ∈ L → b1 x = a1 x ∧ b2 x = a2 x ∧ b3 x = a3 x ∧ b4 x = a4 x ∧ b5 x = a5 x ∧ b6 x = a6 x ∧ b7 x = a7 x ∧ b8 x = a8 x) (s : gc_sub a1 a2 a3 a4 a5 a6 a7 a8 h n L) : gc_sub b1 b2 b3 b4 b5 b6 b7 b8 h n L := by
  induction h using Nat.strongRecOn generalizing n L with
  | ind h ih =>
    cases h with
    | zero =>
      obtain ⟨rfl, rfl, f⟩ := gc_sub0.mp s
      obtain ⟨e1, e2, e3, e4, e5, e6, e7, e8⟩ := hz 0 (Or.inl rfl)
      exact gc_sub0.mpr ⟨rfl, rfl, gc_fa_congr (fun x hx => absurd hx (by simp)) e5 e6 e7 e8 f⟩
    | succ h =>
      obtain ⟨l, r, hl, hr, L1, L2, e, h1, h2, h3, h4, rfl, h6, h7, f, s1, s2⟩ := gc_subS.mp s
      obtain ⟨e1, e2, e3, e4, e5, e6, e7, e8⟩ := hz n (Or.inr (by simp))
      refine gc_subS.mpr ⟨l, r, hl, hr, L1, L2, e, h1, h2, by rw [e3, h3], by rw [e4, h4], rfl, h6, h7, gc_fa_congr (fun x hx => ?_) e5 e6 e7 e8 f, ih hl (by omega) (fun x hx => hz x ?_) s1, ih hr (by omega) (fun x hx => hz x ?_) s2⟩
      · exact ⟨(hz x (Or.inr hx)).1, (hz x (Or.inr hx)).2.1⟩
      · rcases hx with q | q
        · exact Or.inl q
        · exact Or.inr (by simp [q])
      · rcases hx with q | q
        · exact Or.inl q
        · exact Or.inr (by simp [q])
def gc_mn : Nat → Nat
  | 0 => 0
  | 1 => 1
  | h + 2 => gc_mn (h + 1) + gc_mn h + 1
theorem gc_mn_mono (h : Nat) : gc_mn h ≤ gc_mn (h + 1) := by
  cases h with
  | zero => exact Nat.zero_le _
  | succ h =>
    show gc_mn (h + 1) ≤ gc_mn (h + 1) + gc_mn h + 1
    omega
theorem gc_mn_le {a b : Nat} (h : a ≤ b) : gc_mn a ≤ gc_mn b := by
  induction h with
  | refl => exact Nat.le_refl _
  | step _ ih => exact Nat.le_trans ih (gc_mn_mono _)
theorem gc_sub_mn {a1 : Nat → Int64} {a2 a3 a4 a5 a6 a7 a8 : Nat → Int32} {h n : Nat} {L : List Nat} (s : gc_sub a1 a2 a3 a4 a5 a6 a7 a8 h n L) : gc_mn h ≤ L.length := by
  induction h using Nat.strongRecOn generalizing n L with
  | ind h ih =>
    cases h with
    | zero => exact Nat.zero_le _
    | succ h =>
      obtain ⟨l, r, hl, hr, L1, L2, e, h1, h2, h3, h4, rfl, h6, h7, f, s1, s2⟩ := gc_subS.mp s
      have i1 := ih hl (by omega) s1
      have i2 := ih hr (by omega) s2
      rw [List.length_append, List.length_cons]
      cases h with
      | zero =>
        show 1 ≤ _
        omega
      | succ h =>
        show gc_mn (h + 1) + gc_mn h + 1 ≤ _
        rcases Nat.lt_or_ge hl hr with g | g
        · have q1 : gc_mn (h + 1) ≤ gc_mn hr := gc_mn_le (by omega)
          have q2 : gc_mn h ≤ gc_mn hl := gc_mn_le (by omega)
          omega
        · have q1 : gc_mn (h + 1) ≤ gc_mn hl := gc_mn_le (by omega)
          have q2 : gc_mn h ≤ gc_mn hr := gc_mn_le (by omega)
          omega
theorem gc_sub_h {a1 : Nat → Int64} {a2 a3 a4 a5 a6 a7 a8 : Nat → Int32} {h n : Nat} {L : List Nat} (s : gc_sub a1 a2 a3 a4 a5 a6 a7 a8 h n L) (hL : L.length ≤ 40) : h ≤ 7 := by
  have h1 := gc_sub_mn s
  rcases Nat.lt_or_ge h 8 with g | g
  · omega
  · have h2 : gc_mn 8 ≤ gc_mn h := gc_mn_le g
    have h3 : gc_mn 8 = 54 := rfl
    omega
def gc_ag (S : List Nat) (a3 a4 a5 a6 a7 a8 b3 b4 b5 b6 b7 b8 : Nat → Int32) : Prop := ∀ x, x ∉ S → b3 x = a3 x ∧ b4 x = a4 x ∧ b5 x = a5 x ∧ b6 x = a6 x ∧ b7 x = a7 x ∧ b8 x = a8 x
theorem gc_ag_refl {S : List Nat} {a3 a4 a5 a6 a7 a8 : Nat → Int32} : gc_ag S a3 a4 a5 a6 a7 a8 a3 a4 a5 a6 a7 a8 := fun x _ => ⟨rfl, rfl, rfl, rfl, rfl, rfl⟩
theorem gc_ag_tr {S R W : List Nat} {a3 a4 a5 a6 a7 a8 b3 b4 b5 b6 b7 b8 c3 c4 c5 c6 c7 c8 : Nat → Int32} (h : gc_ag S a3 a4 a5 a6 a7 a8 b3 b4 b5 b6 b7 b8) (h' : gc_ag R b3 b4 b5 b6 b7 b8 c3 c4 c5 c6 c7 c8) (hS : ∀ x, x ∈ S → x ∈ W) (hR : ∀ x, x ∈ R → x ∈ W) : gc_ag W a3 a4 a5 a6 a7 a8 c3 c4 c5 c6 c7 c8 := by
  intro x hx
  obtain ⟨e3, e4, e5, e6, e7, e8⟩ := h x (fun q => hx (hS x q))
  obtain ⟨g3, g4, g5, g6, g7, g8⟩ := h' x (fun q => hx (hR x q))
  exact ⟨g3.trans e3, g4.trans e4, g5.trans e5, g6.trans e6, g7.trans e7, g8.trans e8⟩
theorem gc_sub_ag {a1 : Nat → Int64} {a2 a3 a4 a5 a6 a7 a8 : Nat → Int32} {b3 b4 b5 b6 b7 b8 : Nat → Int32} {S : List Nat} {h n : Nat} {L : List Nat} (hz : gc_ag S a3 a4 a5 a6 a7 a8 b3 b4 b5 b6 b7 b8) (h0 : 0 ∉ S) (hd : ∀ x, x ∈ L → x ∉ S) (s : gc_sub a1 a2 a3 a4 a5 a6 a7 a8 h n L) : gc_sub a1 a2 b3 b4 b5 b6 b7 b8 h n L :=
  gc_sub_congr (fun x hx => by
    have q : x ∉ S := by
      rcases hx with e | e
      · rw [e]; exact h0
      · exact hd x e
    exact ⟨rfl, rfl, hz x q⟩) s
theorem gc_fa_ag {a1 : Nat → Int64} {a2 a3 a4 a5 a6 a7 a8 b3 b4 b5 b6 b7 b8 : Nat → Int32} {S : List Nat} {h n : Nat} {L : List Nat} (hz : gc_ag S a3 a4 a5 a6 a7 a8 b3 b4 b5 b6 b7 b8) (hn : n ∉ S) (f : gc_fa a1 a2 a5 a6 a7 a8 h n L) : gc_fa a1 a2 b5 b6 b7 b8 h n L := by
  obtain ⟨_, _, e5, e6, e7, e8⟩ := hz n hn
  exact gc_fa_congr (fun _ _ => ⟨rfl, rfl⟩) e5 e6 e7 e8 f
def gc_cx (a1 : Nat → Int64) (a2 a3 a4 a5 a6 a7 a8 a9 : Nat → Int32) : Nat → Nat → Nat → List Nat → List Nat → Prop
  | 0 => fun _ _ A B => A = [] ∧ B = []
  | d + 1 => fun x h A B => ∃ p : Nat, 1 ≤ p ∧ p ≤ 40 ∧ a9 d = nI p ∧ ((∃ (r hr : Nat) (R B' : List Nat), a3 p = nI x ∧ a4 p = nI r ∧ gc_sub a1 a2 a3 a4 a5 a6 a7 a8 hr r R ∧ B = p :: (R ++ B') ∧ h ≤ hr + 1 ∧ hr ≤ h + 1 ∧ gc_cx a1 a2 a3 a4 a5 a6 a7 a8 a9 d p (max h hr + 1) A B') ∨ (∃ (l hl : Nat) (Q A' : List Nat), a3 p = nI l ∧ a4 p = nI x ∧ gc_sub a1 a2 a3 a4 a5 a6 a7 a8 hl l Q ∧ A = A' ++ (Q ++ [p]) ∧ h ≤ hl + 1 ∧ hl ≤ h + 1 ∧ gc_cx a1 a2 a3 a4 a5 a6 a7 a8 a9 d p (max hl h + 1) A' B))
theorem gc_cx_congr {a1 : Nat → Int64} {a2 a3 a4 a5 a6 a7 a8 : Nat → Int32} {a9 : Nat → Int32} {b1 : Nat → Int64} {b2 b3 b4 b5 b6 b7 b8 b9 : Nat → Int32} {d x h : Nat} {A B : List Nat} (hz : ∀ x, x = 0 ∨ x ∈ A ∨ x ∈ B → b1 x = a1 x ∧ b2 x = a2 x ∧ b3 x = a3 x ∧ b4 x = a4 x ∧ b5 x = a5 x ∧ b6 x = a6 x ∧ b7 x = a7 x ∧ b8 x = a8 x) (h9 : ∀ j, j < d → b9 j = a9 j) (s : gc_cx a1 a2 a3 a4 a5 a6 a7 a8 a9 d x h A B) : gc_cx b1 b2 b3 b4 b5 b6 b7 b8 b9 d x h A B := by
  induction d generalizing x h A B with
  | zero => exact s
  | succ d ih =>
    obtain ⟨p, h1, h2, e9, s⟩ := s
    refine ⟨p, h1, h2, by rw [h9 d (by omega), e9], ?_⟩
    rcases s with ⟨r, hr, R, B', e3, e4, sr, rfl, g1, g2, s⟩ | ⟨l, hl, Q, A', e3, e4, sl, rfl, g1, g2, s⟩
    · obtain ⟨_, _, z3, z4, _⟩ := hz p (by simp)
      refine Or.inl ⟨r, hr, R, B', by rw [z3, e3], by rw [z4, e4], gc_sub_congr (fun y hy => hz y ?_) sr, rfl, g1, g2, ih (fun y hy => hz y ?_) (fun j hj => h9 j (by omega)) s⟩
      · rcases hy with q | q <;> simp [q]
      · rcases hy with q | q | q <;> simp [q]
    · obtain ⟨_, _, z3, z4, _⟩ := hz p (by simp)
      refine Or.inr ⟨l, hl, Q, A', by rw [z3, e3], by rw [z4, e4], gc_sub_congr (fun y hy => hz y ?_) sl, rfl, g1, g2, ih (fun y hy => hz y ?_) (fun j hj => h9 j (by omega)) s⟩
      · rcases hy with q | q <;> simp [q]
      · rcases hy with q | q | q <;> simp [q]
theorem gc_cx_ag {a1 : Nat → Int64} {a2 a3 a4 a5 a6 a7 a8 : Nat → Int32} {a9 b3 b4 b5 b6 b7 b8 : Nat → Int32} {S : List Nat} {d x h : Nat} {A B : List Nat} (hz : gc_ag S a3 a4 a5 a6 a7 a8 b3 b4 b5 b6 b7 b8) (h0 : 0 ∉ S) (hA : ∀ x, x ∈ A → x ∉ S) (hB : ∀ x, x ∈ B → x ∉ S) (s : gc_cx a1 a2 a3 a4 a5 a6 a7 a8 a9 d x h A B) : gc_cx a1 a2 b3 b4 b5 b6 b7 b8 a9 d x h A B :=
  gc_cx_congr (fun y hy => by
    have q : y ∉ S := by
      rcases hy with e | e | e
      · rw [e]; exact h0
      · exact hA y e
      · exact hB y e
    exact ⟨rfl, rfl, hz y q⟩) (fun _ _ => rfl) s
end
section
theorem gc_rowsBL {post : Int32 → Prop} {p : Int64} {rt fn dp fl ce sb sa en : Int32} {a1 : Nat → Int64} {a2 a3 a4 a5 a6 a7 a8 a9 a10 a11 a12 a13 a14 : Nat → Int32} : ∀ (h n : Nat) (L : List Nat) (x : Int32) (s fu : Nat), gc_sub a1 a2 a3 a4 a5 a6 a7 a8 h n L → gc_so (gc_cn a1 a2 L) → s + h ≤ 16 → h < fu → post (x + gc_is gc_w ((gc_cn a1 a2 L).filter (gc_bl p))) → wX_rowsBelow_11 post p rt fn dp fl ce sb sa en a1 a2 a3 a4 a5 a6 a7 a8 a9 a10 a11 a12 a13 a14 fu x (nI n) (nI s) := by
  intro h
  induction h using Nat.strongRecOn with
  | ind h ih =>
    intro n L x s fu hs so hb hf hp
    obtain ⟨fu, rfl⟩ : ∃ k, fu = k + 1 := ⟨fu - 1, by omega⟩
    by_cases hn : n = 0
    · subst hn
      obtain ⟨rfl, rfl⟩ := gc_sub_z hs
      have hp' : post x := by simpa [gc_cn, gc_is] using hp
      exact pk_le 16 s (fun _ => hp') (fun _ => br_t (c := nI 0 = 0) nI_0 hp')
    · obtain ⟨l, r, hl, hr, L1, L2, rfl, h1, h2, h3, h4, rfl, h6, h7, f, s1, s2⟩ := gc_sub_nz hs hn
      rw [gc_cn_app, gc_cn_cons] at so hp
      obtain ⟨so1, so2, so3, so4, _⟩ := gc_so_mid so
      have cl : (nI n).toNatClampNeg = n := nI_clamp (by omega)
      have vn : vp_in (nI n) 41 := vp_in_nI (by omega) (by omega)
      obtain ⟨l40, _, e6, e7, e8⟩ := gc_sub_fa s1
      have cll : (nI l).toNatClampNeg = l := nI_clamp (by omega)
      have vl : vp_in (nI l) 41 := vp_in_nI (by omega) (by omega)
      refine pk_le 16 s (fun z => absurd z (by omega)) (fun _ => br_f (nI_ne0 (by omega) (by omega)) ⟨vn, ?_⟩)
      rw [cl, h3, h4, cll, e6]
      refine br_c (fun g => ⟨vn, nm_e (nm_r (nI_1 s) (ih hl (by omega) l L1 x (s + 1) fu s1 so1 (by omega) (by omega) ?_))⟩) (fun g => ⟨vn, vl, vn, nm_e ⟨vn, nm_e (nm_r (nI_1 s) (ih hr (by omega) r L2 _ (s + 1) fu s2 so2 (by omega) (by omega) ?_))⟩⟩)
      · rw [gc_bl_ge so g] at hp
        exact hp
      · rw [gc_bl_lt so g, gc_is_app, gc_is_cons] at hp
        have e : x + (gc_is gc_w (gc_cn a1 a2 L1) + (gc_w (a1 n, a2 n) + gc_is gc_w ((gc_cn a1 a2 L2).filter (gc_bl p)))) = x + (gc_is gc_w (gc_cn a1 a2 L1) + a2 n) + gc_is gc_w ((gc_cn a1 a2 L2).filter (gc_bl p)) := by
          rw [Int32.add_assoc, Int32.add_assoc]
          rfl
        rw [e] at hp
        exact hp
theorem gc_rowsB {post : Int32 → Prop} {p : Int64} {fn dp fl ce sb sa en : Int32} {a1 : Nat → Int64} {a2 a3 a4 a5 a6 a7 a8 a9 a10 a11 a12 a13 a14 : Nat → Int32} {h n : Nat} {L : List Nat} (s : gc_sub a1 a2 a3 a4 a5 a6 a7 a8 h n L) (so : gc_so (gc_cn a1 a2 L)) (hh : h ≤ 7) (hp : post (gc_is gc_w ((gc_cn a1 a2 L).filter (gc_bl p)))) : wpX_rowsBelow post (nI n, fn, dp, fl, ce, sb, sa, en, a1, a2, a3, a4, a5, a6, a7, a8, a9, a10, a11, a12, a13, a14) p :=
  ⟨h + 1, gc_rowsBL h n L 0 0 (h + 1) s so (by omega) (by omega) (by rw [Int32.zero_add]; exact hp)⟩
theorem gc_kindsBL {post : Int32 → Prop} {p : Int64} {rt fn dp fl ce sb sa en : Int32} {a1 : Nat → Int64} {a2 a3 a4 a5 a6 a7 a8 a9 a10 a11 a12 a13 a14 : Nat → Int32} : ∀ (h n : Nat) (L : List Nat) (x : Int32) (s fu : Nat), gc_sub a1 a2 a3 a4 a5 a6 a7 a8 h n L → gc_so (gc_cn a1 a2 L) → s + h ≤ 16 → h < fu → post (x + gc_is gc_o ((gc_cn a1 a2 L).filter (gc_bl p))) → wX_kindsBelow_11 post p rt fn dp fl ce sb sa en a1 a2 a3 a4 a5 a6 a7 a8 a9 a10 a11 a12 a13 a14 fu x (nI n) (nI s) := by
  intro h
  induction h using Nat.strongRecOn with
  | ind h ih =>
    intro n L x s fu hs so hb hf hp
    obtain ⟨fu, rfl⟩ : ∃ k, fu = k + 1 := ⟨fu - 1, by omega⟩
    by_cases hn : n = 0
    · subst hn
      obtain ⟨rfl, rfl⟩ := gc_sub_z hs
      have hp' : post x := by simpa [gc_cn, gc_is] using hp
      exact pk_le 16 s (fun _ => hp') (fun _ => br_t (c := nI 0 = 0) nI_0 hp')
    · obtain ⟨l, r, hl, hr, L1, L2, rfl, h1, h2, h3, h4, rfl, h6, h7, f, s1, s2⟩ := gc_sub_nz hs hn
      rw [gc_cn_app, gc_cn_cons] at so hp
      obtain ⟨so1, so2, so3, so4, _⟩ := gc_so_mid so
      have cl : (nI n).toNatClampNeg = n := nI_clamp (by omega)
      have vn : vp_in (nI n) 41 := vp_in_nI (by omega) (by omega)
      obtain ⟨l40, _, e6, e7, e8⟩ := gc_sub_fa s1
      have cll : (nI l).toNatClampNeg = l := nI_clamp (by omega)
      have vl : vp_in (nI l) 41 := vp_in_nI (by omega) (by omega)
      refine pk_le 16 s (fun z => absurd z (by omega)) (fun _ => br_f (nI_ne0 (by omega) (by omega)) ⟨vn, ?_⟩)
      rw [cl, h3, h4, cll, e7]
      refine br_c (fun g => ⟨vn, nm_e (nm_r (nI_1 s) (ih hl (by omega) l L1 x (s + 1) fu s1 so1 (by omega) (by omega) ?_))⟩) (fun g => ⟨vn, vl, nm_e ⟨vn, nm_e (nm_r (nI_1 s) (ih hr (by omega) r L2 _ (s + 1) fu s2 so2 (by omega) (by omega) ?_))⟩⟩)
      · rw [gc_bl_ge so g] at hp
        exact hp
      · rw [gc_bl_lt so g, gc_is_app, gc_is_cons] at hp
        have e : x + (gc_is gc_o (gc_cn a1 a2 L1) + (gc_o (a1 n, a2 n) + gc_is gc_o ((gc_cn a1 a2 L2).filter (gc_bl p)))) = x + (gc_is gc_o (gc_cn a1 a2 L1) + 1) + gc_is gc_o ((gc_cn a1 a2 L2).filter (gc_bl p)) := by
          rw [Int32.add_assoc, Int32.add_assoc]
          rfl
        rw [e] at hp
        exact hp
theorem gc_kindsB {post : Int32 → Prop} {p : Int64} {fn dp fl ce sb sa en : Int32} {a1 : Nat → Int64} {a2 a3 a4 a5 a6 a7 a8 a9 a10 a11 a12 a13 a14 : Nat → Int32} {h n : Nat} {L : List Nat} (s : gc_sub a1 a2 a3 a4 a5 a6 a7 a8 h n L) (so : gc_so (gc_cn a1 a2 L)) (hh : h ≤ 7) (hp : post (gc_is gc_o ((gc_cn a1 a2 L).filter (gc_bl p)))) : wpX_kindsBelow post (nI n, fn, dp, fl, ce, sb, sa, en, a1, a2, a3, a4, a5, a6, a7, a8, a9, a10, a11, a12, a13, a14) p :=
  ⟨h + 1, gc_kindsBL h n L 0 0 (h + 1) s so (by omega) (by omega) (by rw [Int32.zero_add]; exact hp)⟩
theorem gc_sumBL {post : Int32 → Prop} {p : Int64} {rt fn dp fl ce sb sa en : Int32} {a1 : Nat → Int64} {a2 a3 a4 a5 a6 a7 a8 a9 a10 a11 a12 a13 a14 : Nat → Int32} : ∀ (h n : Nat) (L : List Nat) (x : Int32) (s fu : Nat), gc_sub a1 a2 a3 a4 a5 a6 a7 a8 h n L → gc_so (gc_cn a1 a2 L) → s + h ≤ 16 → h < fu → post (x + gc_is gc_s ((gc_cn a1 a2 L).filter (gc_bl p))) → wX_sumBelow_11 post p rt fn dp fl ce sb sa en a1 a2 a3 a4 a5 a6 a7 a8 a9 a10 a11 a12 a13 a14 fu x (nI n) (nI s) := by
  intro h
  induction h using Nat.strongRecOn with
  | ind h ih =>
    intro n L x s fu hs so hb hf hp
    obtain ⟨fu, rfl⟩ : ∃ k, fu = k + 1 := ⟨fu - 1, by omega⟩
    by_cases hn : n = 0
    · subst hn
      obtain ⟨rfl, rfl⟩ := gc_sub_z hs
      have hp' : post x := by simpa [gc_cn, gc_is] using hp
      exact pk_le 16 s (fun _ => hp') (fun _ => br_t (c := nI 0 = 0) nI_0 hp')
    · obtain ⟨l, r, hl, hr, L1, L2, rfl, h1, h2, h3, h4, rfl, h6, h7, f, s1, s2⟩ := gc_sub_nz hs hn
      rw [gc_cn_app, gc_cn_cons] at so hp
      obtain ⟨so1, so2, so3, so4, _⟩ := gc_so_mid so
      have cl : (nI n).toNatClampNeg = n := nI_clamp (by omega)
      have vn : vp_in (nI n) 41 := vp_in_nI (by omega) (by omega)
      obtain ⟨l40, _, e6, e7, e8⟩ := gc_sub_fa s1
      have cll : (nI l).toNatClampNeg = l := nI_clamp (by omega)
      have vl : vp_in (nI l) 41 := vp_in_nI (by omega) (by omega)
      refine pk_le 16 s (fun z => absurd z (by omega)) (fun _ => br_f (nI_ne0 (by omega) (by omega)) ⟨vn, ?_⟩)
      rw [cl, h3, h4, cll, e8]
      refine br_c (fun g => ⟨vn, nm_e (nm_r (nI_1 s) (ih hl (by omega) l L1 x (s + 1) fu s1 so1 (by omega) (by omega) ?_))⟩) (fun g => ⟨vn, vl, vn, vn, nm_e ⟨vn, nm_e (nm_r (nI_1 s) (ih hr (by omega) r L2 _ (s + 1) fu s2 so2 (by omega) (by omega) ?_))⟩⟩)
      · rw [gc_bl_ge so g] at hp
        exact hp
      · rw [gc_bl_lt so g, gc_is_app, gc_is_cons] at hp
        have e : x + (gc_is gc_s (gc_cn a1 a2 L1) + (gc_s (a1 n, a2 n) + gc_is gc_s ((gc_cn a1 a2 L2).filter (gc_bl p)))) = x + (gc_is gc_s (gc_cn a1 a2 L1) + a2 n * gc_val (a1 n)) + gc_is gc_s ((gc_cn a1 a2 L2).filter (gc_bl p)) := by
          rw [Int32.add_assoc, Int32.add_assoc]
          rfl
        rw [e] at hp
        exact hp
theorem gc_sumB {post : Int32 → Prop} {p : Int64} {fn dp fl ce sb sa en : Int32} {a1 : Nat → Int64} {a2 a3 a4 a5 a6 a7 a8 a9 a10 a11 a12 a13 a14 : Nat → Int32} {h n : Nat} {L : List Nat} (s : gc_sub a1 a2 a3 a4 a5 a6 a7 a8 h n L) (so : gc_so (gc_cn a1 a2 L)) (hh : h ≤ 7) (hp : post (gc_is gc_s ((gc_cn a1 a2 L).filter (gc_bl p)))) : wpX_sumBelow post (nI n, fn, dp, fl, ce, sb, sa, en, a1, a2, a3, a4, a5, a6, a7, a8, a9, a10, a11, a12, a13, a14) p :=
  ⟨h + 1, gc_sumBL h n L 0 0 (h + 1) s so (by omega) (by omega) (by rw [Int32.zero_add]; exact hp)⟩
theorem gc_rowAtL {post : Int64 → Prop} {rt fn dp fl ce sb sa en : Int32} {a1 : Nat → Int64} {a2 a3 a4 a5 a6 a7 a8 a9 a10 a11 a12 a13 a14 : Nat → Int32} : ∀ (h n : Nat) (L : List Nat) (j s fu : Nat), gc_sub a1 a2 a3 a4 a5 a6 a7 a8 h n L → gc_pos (gc_cn a1 a2 L) → gc_tot (gc_cn a1 a2 L) ≤ 40 → j < gc_tot (gc_cn a1 a2 L) → s + h ≤ 16 → h < fu → post (gc_rk (gc_cn a1 a2 L) j) → wX_rowAt_10 post rt fn dp fl ce sb sa en a1 a2 a3 a4 a5 a6 a7 a8 a9 a10 a11 a12 a13 a14 fu (nI j) (nI n) (nI s) := by
  intro h
  induction h using Nat.strongRecOn with
  | ind h ih =>
    intro n L j s fu hs po ht hj hb hf hp
    obtain ⟨fu, rfl⟩ : ∃ k, fu = k + 1 := ⟨fu - 1, by omega⟩
    by_cases hn : n = 0
    · subst hn
      obtain ⟨rfl, rfl⟩ := gc_sub_z hs
      exact absurd hj (by simp [gc_cn, gc_tot])
    · obtain ⟨l, r, hl, hr, L1, L2, rfl, h1, h2, h3, h4, rfl, h6, h7, f, s1, s2⟩ := gc_sub_nz hs hn
      rw [gc_cn_app, gc_cn_cons] at po ht hj hp
      have po1 : gc_pos (gc_cn a1 a2 L1) := fun c hc => po c (by simp [hc])
      have po2 : gc_pos (gc_cn a1 a2 L2) := fun c hc => po c (by simp [hc])
      obtain ⟨t, t1, t40, et⟩ := po (a1 n, a2 n) (by simp)
      replace et : a2 n = nI t := et
      have ct : (a2 n).toNatClampNeg = t := by rw [et]; exact nI_clamp (by omega)
      have ht' := ht
      have hj' := hj
      rw [gc_tot_app, gc_tot_cons] at ht' hj'
      replace ht' : gc_tot (gc_cn a1 a2 L1) + ((a2 n).toNatClampNeg + gc_tot (gc_cn a1 a2 L2)) ≤ 40 := ht'
      replace hj' : j < gc_tot (gc_cn a1 a2 L1) + ((a2 n).toNatClampNeg + gc_tot (gc_cn a1 a2 L2)) := hj'
      rw [ct] at ht' hj'
      have cl : (nI n).toNatClampNeg = n := nI_clamp (by omega)
      have vn : vp_in (nI n) 41 := vp_in_nI (by omega) (by omega)
      obtain ⟨l40, _, e6, e7, e8⟩ := gc_sub_fa s1
      rw [gc_is_tot _ po1] at e6
      have cll : (nI l).toNatClampNeg = l := nI_clamp (by omega)
      have vl : vp_in (nI l) 41 := vp_in_nI (by omega) (by omega)
      generalize hT1 : gc_tot (gc_cn a1 a2 L1) = T1 at ht' hj' e6
      refine pk_le 16 s (fun z => absurd z (by omega)) (fun _ => br_f (nI_ne0 (by omega) (by omega)) ⟨vn, ?_⟩)
      rw [cl, h3, h4, cll, e6, et]
      refine ⟨vl, nm_e ?_⟩
      rw [nI_add]
      refine (pk_le T1 j (fun g => ⟨vn, pk_le (T1 + t) j (fun g2 => ⟨vn, nm_r (pk_sub g2) ⟨vn, nm_e (nm_r (nI_1 s) (ih hr (by omega) r L2 (j - (T1 + t)) (s + 1) fu s2 po2 (by omega) (by omega) (by omega) (by omega) ?_))⟩⟩) (fun g2 => ⟨vn, ?_⟩)⟩) (fun g => ⟨vn, nm_e (nm_r (nI_1 s) (ih hl (by omega) l L1 j (s + 1) fu s1 po1 (by omega) (by omega) (by omega) (by omega) ?_))⟩))
      · rw [gc_rk_ge (by omega), hT1] at hp
        have e : gc_rk ((a1 n, a2 n) :: gc_cn a1 a2 L2) (j - T1) = gc_rk (gc_cn a1 a2 L2) (j - (T1 + t)) := by
          show (if j - T1 < (a2 n).toNatClampNeg then a1 n else gc_rk (gc_cn a1 a2 L2) (j - T1 - (a2 n).toNatClampNeg)) = _
          rw [ct, if_neg (by omega)]
          congr 1
          omega
        rw [e] at hp
        exact hp
      · rw [gc_rk_ge (by omega), hT1] at hp
        have e : gc_rk ((a1 n, a2 n) :: gc_cn a1 a2 L2) (j - T1) = a1 n := by
          show (if j - T1 < (a2 n).toNatClampNeg then a1 n else gc_rk (gc_cn a1 a2 L2) (j - T1 - (a2 n).toNatClampNeg)) = _
          rw [ct, if_pos (by omega)]
        rw [e] at hp
        exact hp
      · rw [gc_rk_lt (by omega)] at hp
        exact hp
theorem gc_rowAt {post : Int64 → Prop} {fn dp fl ce sb sa en : Int32} {a1 : Nat → Int64} {a2 a3 a4 a5 a6 a7 a8 a9 a10 a11 a12 a13 a14 : Nat → Int32} {h n j : Nat} {L : List Nat} (s : gc_sub a1 a2 a3 a4 a5 a6 a7 a8 h n L) (po : gc_pos (gc_cn a1 a2 L)) (ht : gc_tot (gc_cn a1 a2 L) ≤ 40) (hh : h ≤ 7) (hj : j < gc_tot (gc_cn a1 a2 L)) (hp : post (gc_rk (gc_cn a1 a2 L) j)) : wpX_rowAt post (nI n, fn, dp, fl, ce, sb, sa, en, a1, a2, a3, a4, a5, a6, a7, a8, a9, a10, a11, a12, a13, a14) (nI j) :=
  ⟨h + 1, gc_rowAtL h n L j 0 (h + 1) s po ht hj (by omega) (by omega) hp⟩
theorem gc_timesOfL {post : Int32 → Prop} {p : Int64} {rt fn dp fl ce sb sa en : Int32} {a1 : Nat → Int64} {a2 a3 a4 a5 a6 a7 a8 a9 a10 a11 a12 a13 a14 : Nat → Int32} (hp : ∀ r, post r) : ∀ (h n : Nat) (L : List Nat) (s fu : Nat), gc_sub a1 a2 a3 a4 a5 a6 a7 a8 h n L → s ≤ 16 → h < fu → wX_timesOf_8 post p rt fn dp fl ce sb sa en a1 a2 a3 a4 a5 a6 a7 a8 a9 a10 a11 a12 a13 a14 fu (nI n) (nI s) := by
  intro h
  induction h using Nat.strongRecOn with
  | ind h ih =>
    intro n L s fu hs hb hf
    obtain ⟨fu, rfl⟩ : ∃ k, fu = k + 1 := ⟨fu - 1, by omega⟩
    by_cases hn : n = 0
    · subst hn
      exact pk_le 16 s (fun _ => hp _) (fun _ => br_t (c := nI 0 = 0) nI_0 (hp _))
    · obtain ⟨l, r, hl, hr, L1, L2, rfl, h1, h2, h3, h4, rfl, h6, h7, f, s1, s2⟩ := gc_sub_nz hs hn
      have cl : (nI n).toNatClampNeg = n := nI_clamp (by omega)
      have vn : vp_in (nI n) 41 := vp_in_nI (by omega) (by omega)
      refine pk_le 16 s (fun z => hp _) (fun z => br_f (nI_ne0 (by omega) (by omega)) ⟨vn, ?_⟩)
      rw [cl, h3, h4]
      exact br_c (fun _ => ⟨vn, hp _⟩) (fun _ => ⟨vn, br_c (fun _ => ⟨vn, nm_e (nm_r (nI_1 s) (ih hr (by omega) r L2 (s + 1) fu s2 (by omega) (by omega)))⟩) (fun _ => ⟨vn, nm_e (nm_r (nI_1 s) (ih hl (by omega) l L1 (s + 1) fu s1 (by omega) (by omega)))⟩)⟩)
theorem gc_timesOf {post : Int32 → Prop} {p : Int64} {fn dp fl ce sb sa en : Int32} {a1 : Nat → Int64} {a2 a3 a4 a5 a6 a7 a8 a9 a10 a11 a12 a13 a14 : Nat → Int32} {h n : Nat} {L : List Nat} (s : gc_sub a1 a2 a3 a4 a5 a6 a7 a8 h n L) (hp : ∀ r, post r) : wpX_timesOf post (nI n, fn, dp, fl, ce, sb, sa, en, a1, a2, a3, a4, a5, a6, a7, a8, a9, a10, a11, a12, a13, a14) p :=
  ⟨h + 1, gc_timesOfL hp h n L 0 (h + 1) s (by omega) (by omega)⟩
end
section
theorem gc_1p (h : Nat) : (1 : Int32) + nI h = nI (h + 1) := by
  rw [Int32.add_comm, nI_1]
theorem gc_update {post : St1 → Prop} {rt fn dp fl ce sb sa en : Int32} {a1 : Nat → Int64} {a2 a3 a4 a5 a6 a7 a8 a9 a10 a11 a12 a13 a14 : Nat → Int32} {n l r hl hr : Nat} {L1 L2 : List Nat} (h2 : n ≤ 40) (h3 : a3 n = nI l) (h4 : a4 n = nI r) (f1 : gc_fa a1 a2 a5 a6 a7 a8 hl l L1) (f2 : gc_fa a1 a2 a5 a6 a7 a8 hr r L2) (b1 : hl ≤ 100) (b2 : hr ≤ 100)
    (H : ∀ b5 b6 b7 b8 : Nat → Int32, (∀ x, x ≠ n → b5 x = a5 x ∧ b6 x = a6 x ∧ b7 x = a7 x ∧ b8 x = a8 x) → gc_fa a1 a2 b5 b6 b7 b8 (max hl hr + 1) n (L1 ++ n :: L2) → post (rt, fn, dp, fl, ce, sb, sa, en, a1, a2, a3, a4, b5, b6, b7, b8, a9, a10, a11, a12, a13, a14)) : wpX_update post (rt, fn, dp, fl, ce, sb, sa, en, a1, a2, a3, a4, a5, a6, a7, a8, a9, a10, a11, a12, a13, a14) (nI n) := by
  obtain ⟨l40, l5, l6, l7, l8⟩ := f1
  obtain ⟨r40, r5, r6, r7, r8⟩ := f2
  have cn : (nI n).toNatClampNeg = n := nI_clamp (by omega)
  have vn : vp_in (nI n) 41 := vp_in_nI (by omega) (by omega)
  have cl : (nI l).toNatClampNeg = l := nI_clamp (by omega)
  have vl : vp_in (nI l) 41 := vp_in_nI (by omega) (by omega)
  have cr : (nI r).toNatClampNeg = r := nI_clamp (by omega)
  have vr : vp_in (nI r) 41 := vp_in_nI (by omega) (by omega)
  have K : ∀ m, m = max hl hr → wX_update_50 post (nI n) (nI l) (nI r) (nI m) 1 (nI n) rt fn dp fl ce sb sa en a1 a2 a3 a4 a5 a6 a7 a8 a9 a10 a11 a12 a13 a14 := by
    intro m hm
    unfold wX_update_50
    rw [cn, cl, cr]
    refine ⟨vn, nm_e ⟨vl, vr, vn, vn, nm_e ⟨vl, vr, vn, nm_e ⟨vl, vr, vn, vn, ?_⟩⟩⟩⟩
    refine ⟨vn, nm_e (H _ _ _ _ (fun x hx => ⟨pk_un hx, pk_un hx, pk_un hx, pk_un hx⟩) ⟨h2, ?_, ?_, ?_, ?_⟩)⟩
    · rw [pk_us, gc_1p, hm]
    · rw [pk_us, l6, r6, gc_cn_app, gc_cn_cons, gc_is_app, gc_is_cons, Int32.add_assoc]
      congr 1
      exact Int32.add_comm _ _
    · rw [pk_us, l7, r7, gc_cn_app, gc_cn_cons, gc_is_app, gc_is_cons, Int32.add_assoc]
      congr 1
      exact Int32.add_comm _ _
    · rw [pk_us, l8, r8, gc_cn_app, gc_cn_cons, gc_is_app, gc_is_cons, Int32.add_assoc]
      congr 1
      exact Int32.add_comm _ _
  unfold wpX_update
  dsimp only
  rw [cn, h3, h4]
  refine ⟨vn, nm_e ⟨vn, nm_e ⟨vl, vr, ?_⟩⟩⟩
  rw [cl, cr, l5, r5]
  exact pk_le hl hr (fun z => ⟨vr, K hr (by omega)⟩) (fun z => ⟨vl, K hl (by omega)⟩)
theorem gc_update_2 : @wpX_update_2 = @wpX_update := rfl
theorem gc_update_3 : @wpX_update_3 = @wpX_update := rfl
theorem gc_turnL {post : Int32 → St1 → Prop} {rt fn dp fl ce sb sa en : Int32} {a1 : Nat → Int64} {a2 a3 a4 a5 a6 a7 a8 a9 a10 a11 a12 a13 a14 : Nat → Int32} {n r l x y hl hx hy : Nat} {L1 X Y : List Nat} (n1 : n ≤ 40) (r1 : r ≤ 40) (nr : n ≠ r) (h3 : a3 n = nI l) (h4 : a4 n = nI r) (g3 : a3 r = nI x) (g4 : a4 r = nI y)
    (fl1 : gc_fa a1 a2 a5 a6 a7 a8 hl l L1) (fx : gc_fa a1 a2 a5 a6 a7 a8 hx x X) (fy : gc_fa a1 a2 a5 a6 a7 a8 hy y Y) (bl : hl ≤ 50) (bx : hx ≤ 50) (by_ : hy ≤ 50) (ln : l ≠ n) (lr : l ≠ r) (xn : x ≠ n) (xr : x ≠ r) (yn : y ≠ n) (yr : y ≠ r)
    (H : ∀ b3 b4 b5 b6 b7 b8 : Nat → Int32, gc_ag [n, r] a3 a4 a5 a6 a7 a8 b3 b4 b5 b6 b7 b8 → b3 n = nI l → b4 n = nI x → b3 r = nI n → b4 r = nI y → gc_fa a1 a2 b5 b6 b7 b8 (max hl hx + 1) n (L1 ++ n :: X) → gc_fa a1 a2 b5 b6 b7 b8 (max (max hl hx + 1) hy + 1) r ((L1 ++ n :: X) ++ r :: Y) → post (nI r) (rt, fn, dp, fl, ce, sb, sa, en, a1, a2, b3, b4, b5, b6, b7, b8, a9, a10, a11, a12, a13, a14)) : wpX_turnLeft post (rt, fn, dp, fl, ce, sb, sa, en, a1, a2, a3, a4, a5, a6, a7, a8, a9, a10, a11, a12, a13, a14) (nI n) := by
  have cn : (nI n).toNatClampNeg = n := nI_clamp (by omega)
  have vn : vp_in (nI n) 41 := vp_in_nI (by omega) (by omega)
  have cr : (nI r).toNatClampNeg = r := nI_clamp (by omega)
  have vr : vp_in (nI r) 41 := vp_in_nI (by omega) (by omega)
  unfold wpX_turnLeft
  dsimp only
  rw [cn, h4]
  refine ⟨vn, nm_e ⟨vr, vn, ?_⟩⟩
  rw [cr, g3]
  refine nm_e ⟨vr, nm_e ?_⟩
  have u3n : upd a3 r (nI n) n = nI l := by rw [pk_un nr, h3]
  have u4n : upd a4 n (nI x) n = nI x := pk_us
  have u3r : upd a3 r (nI n) r = nI n := pk_us
  have u4r : upd a4 n (nI x) r = nI y := by rw [pk_un (fun z => nr z.symm), g4]
  refine gc_update n1 u3n u4n fl1 fx (by omega) (by omega) (fun b5 b6 b7 b8 hb fn1 => ?_)
  have fy' : gc_fa a1 a2 b5 b6 b7 b8 hy y Y := by
    obtain ⟨e5, e6, e7, e8⟩ := hb y yn
    exact gc_fa_congr (fun _ _ => ⟨rfl, rfl⟩) e5 e6 e7 e8 fy
  refine gc_update r1 u3r u4r fn1 fy' (by omega) (by omega) (fun c5 c6 c7 c8 hc fr1 => ?_)
  refine H _ _ c5 c6 c7 c8 (fun z hz => ?_) u3n u4n u3r u4r ?_ fr1
  · have zn : z ≠ n := fun e => hz (by simp [e])
    have zr : z ≠ r := fun e => hz (by simp [e])
    obtain ⟨e5, e6, e7, e8⟩ := hb z zn
    obtain ⟨k5, k6, k7, k8⟩ := hc z zr
    exact ⟨pk_un zr, pk_un zn, k5.trans e5, k6.trans e6, k7.trans e7, k8.trans e8⟩
  · obtain ⟨k5, k6, k7, k8⟩ := hc n nr
    exact gc_fa_congr (fun _ _ => ⟨rfl, rfl⟩) k5 k6 k7 k8 fn1
theorem gc_turnL_2 : @wpX_turnLeft_2 = @wpX_turnLeft := rfl
theorem gc_turnR {post : Int32 → St1 → Prop} {rt fn dp fl ce sb sa en : Int32} {a1 : Nat → Int64} {a2 a3 a4 a5 a6 a7 a8 a9 a10 a11 a12 a13 a14 : Nat → Int32} {n l r x y hr hx hy : Nat} {R X Y : List Nat} (n1 : n ≤ 40) (l1 : l ≤ 40) (nl : n ≠ l) (h3 : a3 n = nI l) (h4 : a4 n = nI r) (g3 : a3 l = nI x) (g4 : a4 l = nI y)
    (fx : gc_fa a1 a2 a5 a6 a7 a8 hx x X) (fy : gc_fa a1 a2 a5 a6 a7 a8 hy y Y) (fr1 : gc_fa a1 a2 a5 a6 a7 a8 hr r R) (bx : hx ≤ 50) (by_ : hy ≤ 50) (br : hr ≤ 50) (rn : r ≠ n) (rl : r ≠ l) (xn : x ≠ n) (xl : x ≠ l) (yn : y ≠ n) (yl : y ≠ l)
    (H : ∀ b3 b4 b5 b6 b7 b8 : Nat → Int32, gc_ag [n, l] a3 a4 a5 a6 a7 a8 b3 b4 b5 b6 b7 b8 → b3 n = nI y → b4 n = nI r → b3 l = nI x → b4 l = nI n → gc_fa a1 a2 b5 b6 b7 b8 (max hy hr + 1) n (Y ++ n :: R) → gc_fa a1 a2 b5 b6 b7 b8 (max hx (max hy hr + 1) + 1) l (X ++ l :: (Y ++ n :: R)) → post (nI l) (rt, fn, dp, fl, ce, sb, sa, en, a1, a2, b3, b4, b5, b6, b7, b8, a9, a10, a11, a12, a13, a14)) : wpX_turnRight_2 post (rt, fn, dp, fl, ce, sb, sa, en, a1, a2, a3, a4, a5, a6, a7, a8, a9, a10, a11, a12, a13, a14) (nI n) := by
  have cn : (nI n).toNatClampNeg = n := nI_clamp (by omega)
  have vn : vp_in (nI n) 41 := vp_in_nI (by omega) (by omega)
  have cl : (nI l).toNatClampNeg = l := nI_clamp (by omega)
  have vl : vp_in (nI l) 41 := vp_in_nI (by omega) (by omega)
  unfold wpX_turnRight_2
  dsimp only
  rw [cn, h3]
  refine ⟨vn, nm_e ⟨vl, vn, ?_⟩⟩
  rw [cl, g4]
  refine nm_e ⟨vl, nm_e ?_⟩
  have u3n : upd a3 n (nI y) n = nI y := pk_us
  have u4n : upd a4 l (nI n) n = nI r := by rw [pk_un nl, h4]
  have u3l : upd a3 n (nI y) l = nI x := by rw [pk_un (fun z => nl z.symm), g3]
  have u4l : upd a4 l (nI n) l = nI n := pk_us
  refine gc_update n1 u3n u4n fy fr1 (by omega) (by omega) (fun b5 b6 b7 b8 hb fn1 => ?_)
  have fx' : gc_fa a1 a2 b5 b6 b7 b8 hx x X := by
    obtain ⟨e5, e6, e7, e8⟩ := hb x xn
    exact gc_fa_congr (fun _ _ => ⟨rfl, rfl⟩) e5 e6 e7 e8 fx
  refine gc_update l1 u3l u4l fx' fn1 (by omega) (by omega) (fun c5 c6 c7 c8 hc fl1 => ?_)
  refine H _ _ c5 c6 c7 c8 (fun z hz => ?_) u3n u4n u3l u4l ?_ fl1
  · have zn : z ≠ n := fun e => hz (by simp [e])
    have zl : z ≠ l := fun e => hz (by simp [e])
    obtain ⟨e5, e6, e7, e8⟩ := hb z zn
    obtain ⟨k5, k6, k7, k8⟩ := hc z zl
    exact ⟨pk_un zn, pk_un zl, k5.trans e5, k6.trans e6, k7.trans e7, k8.trans e8⟩
  · obtain ⟨k5, k6, k7, k8⟩ := hc n nl
    exact gc_fa_congr (fun _ _ => ⟨rfl, rfl⟩) k5 k6 k7 k8 fn1
theorem gc_turnR_2 : @wpX_turnRight = @wpX_turnRight_2 := rfl
end
section
theorem gc_ne {a1 : Nat → Int64} {a2 a3 a4 a5 a6 a7 a8 : Nat → Int32} {h l n : Nat} {L : List Nat} (s : gc_sub a1 a2 a3 a4 a5 a6 a7 a8 h l L) (hz : n ≠ 0) (hn : n ∉ L) : l ≠ n := by
  intro e
  rcases gc_sub_mem s with q | q
  · exact hz (by omega)
  · exact hn (e ▸ q)
theorem gc_bal131 {post : Int32 → St1 → Prop} {rt fn dp fl ce sb sa en : Int32} {a1 : Nat → Int64} {a2 a3 a4 a5 a6 a7 a8 a9 a10 a11 a12 a13 a14 : Nat → Int32} {n r l x y hl hx hy : Nat} {L1 X Y : List Nat} (n0 : 1 ≤ n) (n1 : n ≤ 40) (r0 : 1 ≤ r) (r1 : r ≤ 40) (h3 : a3 n = nI l) (h4 : a4 n = nI r) (g3 : a3 r = nI x) (g4 : a4 r = nI y)
    (sl : gc_sub a1 a2 a3 a4 a5 a6 a7 a8 hl l L1) (sx : gc_sub a1 a2 a3 a4 a5 a6 a7 a8 hx x X) (sy : gc_sub a1 a2 a3 a4 a5 a6 a7 a8 hy y Y) (nd : (L1 ++ n :: (X ++ r :: Y)).Nodup) (q1 : hl ≤ hx + 1) (q2 : hx ≤ hl + 1) (q3 : max hl hx + 1 ≤ hy + 1) (q4 : hy ≤ max hl hx + 1 + 1) (bl : hl ≤ 50) (bx : hx ≤ 50) (by_ : hy ≤ 50)
    (H : ∀ b3 b4 b5 b6 b7 b8 : Nat → Int32, gc_ag [n, r] a3 a4 a5 a6 a7 a8 b3 b4 b5 b6 b7 b8 → gc_sub a1 a2 b3 b4 b5 b6 b7 b8 (max (max hl hx + 1) hy + 1) r (L1 ++ n :: (X ++ r :: Y)) → post (nI r) (rt, fn, dp, fl, ce, sb, sa, en, a1, a2, b3, b4, b5, b6, b7, b8, a9, a10, a11, a12, a13, a14)) : wX_balance_131 post (nI n) rt fn dp fl ce sb sa en a1 a2 a3 a4 a5 a6 a7 a8 a9 a10 a11 a12 a13 a14 := by
  have e : L1 ++ n :: (X ++ r :: Y) = (L1 ++ n :: X) ++ r :: Y := by simp
  simp only [List.nodup_append, List.nodup_cons, List.mem_append, List.mem_cons] at nd
  have nL : n ∉ L1 := by grind
  have nX : n ∉ X := by grind
  have nY : n ∉ Y := by grind
  have rL : r ∉ L1 := by grind
  have rX : r ∉ X := by grind
  have rY : r ∉ Y := by grind
  have nr : n ≠ r := by grind
  unfold wX_balance_131
  refine gc_turnL n1 r1 nr h3 h4 g3 g4 (gc_sub_fa sl) (gc_sub_fa sx) (gc_sub_fa sy) bl bx by_ (gc_ne sl (by omega) nL) (gc_ne sl (by omega) rL) (gc_ne sx (by omega) nX) (gc_ne sx (by omega) rX) (gc_ne sy (by omega) nY) (gc_ne sy (by omega) rY) (fun b3 b4 b5 b6 b7 b8 ag e3 e4 k3 k4 f1 f2 => H b3 b4 b5 b6 b7 b8 ag ?_)
  have z0 : 0 ∉ [n, r] := by simp; omega
  have t1 := gc_sub_ag ag z0 (fun z hz => by simp; exact ⟨fun e => nL (e ▸ hz), fun e => rL (e ▸ hz)⟩) sl
  have t2 := gc_sub_ag ag z0 (fun z hz => by simp; exact ⟨fun e => nX (e ▸ hz), fun e => rX (e ▸ hz)⟩) sx
  have t3 := gc_sub_ag ag z0 (fun z hz => by simp; exact ⟨fun e => nY (e ▸ hz), fun e => rY (e ▸ hz)⟩) sy
  rw [e]
  exact gc_sub_mk r0 r1 k3 k4 q3 q4 f2 (gc_sub_mk n0 n1 e3 e4 q1 q2 f1 t1 t2) t3
theorem gc_bal72 {post : Int32 → St1 → Prop} {rt fn dp fl ce sb sa en : Int32} {a1 : Nat → Int64} {a2 a3 a4 a5 a6 a7 a8 a9 a10 a11 a12 a13 a14 : Nat → Int32} {n r l x y hr hx hy : Nat} {R X Y : List Nat} (n0 : 1 ≤ n) (n1 : n ≤ 40) (l0 : 1 ≤ l) (l1 : l ≤ 40) (h3 : a3 n = nI l) (h4 : a4 n = nI r) (g3 : a3 l = nI x) (g4 : a4 l = nI y)
    (sx : gc_sub a1 a2 a3 a4 a5 a6 a7 a8 hx x X) (sy : gc_sub a1 a2 a3 a4 a5 a6 a7 a8 hy y Y) (sr : gc_sub a1 a2 a3 a4 a5 a6 a7 a8 hr r R) (nd : ((X ++ l :: Y) ++ n :: R).Nodup) (q1 : hy ≤ hr + 1) (q2 : hr ≤ hy + 1) (q3 : hx ≤ max hy hr + 1 + 1) (q4 : max hy hr + 1 ≤ hx + 1) (bx : hx ≤ 50) (by_ : hy ≤ 50) (br : hr ≤ 50)
    (H : ∀ b3 b4 b5 b6 b7 b8 : Nat → Int32, gc_ag [n, l] a3 a4 a5 a6 a7 a8 b3 b4 b5 b6 b7 b8 → gc_sub a1 a2 b3 b4 b5 b6 b7 b8 (max hx (max hy hr + 1) + 1) l ((X ++ l :: Y) ++ n :: R) → post (nI l) (rt, fn, dp, fl, ce, sb, sa, en, a1, a2, b3, b4, b5, b6, b7, b8, a9, a10, a11, a12, a13, a14)) : wX_balance_72 post (nI n) rt fn dp fl ce sb sa en a1 a2 a3 a4 a5 a6 a7 a8 a9 a10 a11 a12 a13 a14 := by
  have e : (X ++ l :: Y) ++ n :: R = X ++ l :: (Y ++ n :: R) := by simp
  simp only [List.nodup_append, List.nodup_cons, List.mem_append, List.mem_cons] at nd
  have nR : n ∉ R := by grind
  have nX : n ∉ X := by grind
  have nY : n ∉ Y := by grind
  have lR : l ∉ R := by grind
  have lX : l ∉ X := by grind
  have lY : l ∉ Y := by grind
  have nl : n ≠ l := by grind
  unfold wX_balance_72
  refine gc_turnR n1 l1 nl h3 h4 g3 g4 (gc_sub_fa sx) (gc_sub_fa sy) (gc_sub_fa sr) bx by_ br (gc_ne sr (by omega) nR) (gc_ne sr (by omega) lR) (gc_ne sx (by omega) nX) (gc_ne sx (by omega) lX) (gc_ne sy (by omega) nY) (gc_ne sy (by omega) lY) (fun b3 b4 b5 b6 b7 b8 ag e3 e4 k3 k4 f1 f2 => H b3 b4 b5 b6 b7 b8 ag ?_)
  have z0 : 0 ∉ [n, l] := by simp; omega
  have t1 := gc_sub_ag ag z0 (fun z hz => by simp; exact ⟨fun e => nR (e ▸ hz), fun e => lR (e ▸ hz)⟩) sr
  have t2 := gc_sub_ag ag z0 (fun z hz => by simp; exact ⟨fun e => nX (e ▸ hz), fun e => lX (e ▸ hz)⟩) sx
  have t3 := gc_sub_ag ag z0 (fun z hz => by simp; exact ⟨fun e => nY (e ▸ hz), fun e => lY (e ▸ hz)⟩) sy
  rw [e]
  exact gc_sub_mk l0 l1 k3 k4 q3 q4 f2 t2 (gc_sub_mk n0 n1 e3 e4 q1 q2 f1 t3 t1)
def gc_hr (hl hr h' : Nat) : Prop := max hl hr ≤ h' ∧ h' ≤ max hl hr + 1 ∧ (hl ≤ hr + 1 → hr ≤ hl + 1 → h' = max hl hr + 1)
theorem gc_balance {post : Int32 → St1 → Prop} {rt fn dp fl ce sb sa en : Int32} {a1 : Nat → Int64} {a2 a3 a4 a5 a6 a7 a8 a9 a10 a11 a12 a13 a14 : Nat → Int32} {n l r hl hr : Nat} {L1 L2 : List Nat} (n0 : 1 ≤ n) (n1 : n ≤ 40) (h3 : a3 n = nI l) (h4 : a4 n = nI r)
    (sl : gc_sub a1 a2 a3 a4 a5 a6 a7 a8 hl l L1) (sr : gc_sub a1 a2 a3 a4 a5 a6 a7 a8 hr r L2) (nd : (L1 ++ n :: L2).Nodup) (q1 : hl ≤ hr + 2) (q2 : hr ≤ hl + 2) (bl : hl ≤ 40) (br : hr ≤ 40)
    (H : ∀ (top h' : Nat) (b3 b4 b5 b6 b7 b8 : Nat → Int32), gc_ag (L1 ++ n :: L2) a3 a4 a5 a6 a7 a8 b3 b4 b5 b6 b7 b8 → gc_sub a1 a2 b3 b4 b5 b6 b7 b8 h' top (L1 ++ n :: L2) → gc_hr hl hr h' → post (nI top) (rt, fn, dp, fl, ce, sb, sa, en, a1, a2, b3, b4, b5, b6, b7, b8, a9, a10, a11, a12, a13, a14)) : wpX_balance post (rt, fn, dp, fl, ce, sb, sa, en, a1, a2, a3, a4, a5, a6, a7, a8, a9, a10, a11, a12, a13, a14) (nI n) := by
  have cn : (nI n).toNatClampNeg = n := nI_clamp (by omega)
  have vn : vp_in (nI n) 41 := vp_in_nI (by omega) (by omega)
  have l40 := (gc_sub_fa sl).1
  have r40 := (gc_sub_fa sr).1
  have cl : (nI l).toNatClampNeg = l := nI_clamp (by omega)
  have vl : vp_in (nI l) 41 := vp_in_nI (by omega) (by omega)
  have cr : (nI r).toNatClampNeg = r := nI_clamp (by omega)
  have vr : vp_in (nI r) 41 := vp_in_nI (by omega) (by omega)
  have nL : n ∉ L1 := by
    simp only [List.nodup_append, List.nodup_cons, List.mem_cons] at nd
    grind
  have nR : n ∉ L2 := by
    simp only [List.nodup_append, List.nodup_cons, List.mem_cons] at nd
    grind
  unfold wpX_balance
  dsimp only
  refine gc_update n1 h3 h4 (gc_sub_fa sl) (gc_sub_fa sr) (by omega) (by omega) (fun b5 b6 b7 b8 hb f0 => ?_)
  have ag : gc_ag [n] a3 a4 a5 a6 a7 a8 a3 a4 b5 b6 b7 b8 := fun x hx => ⟨rfl, rfl, hb x (by simpa using hx)⟩
  have z0 : 0 ∉ [n] := by simp; omega
  have tl := gc_sub_ag ag z0 (fun z hz => by simp; exact fun e => nL (e ▸ hz)) sl
  have tr := gc_sub_ag ag z0 (fun z hz => by simp; exact fun e => nR (e ▸ hz)) sr
  have l5 := (gc_sub_fa tl).2.1
  have r5 := (gc_sub_fa tr).2.1
  have agW : gc_ag (L1 ++ n :: L2) a3 a4 a5 a6 a7 a8 a3 a4 b5 b6 b7 b8 := gc_ag_tr ag gc_ag_refl (by simp) (fun _ q => q)
  dsimp only
  rw [cn, h3, h4]
  refine ⟨vn, nm_e ⟨vn, nm_e ⟨vl, vr, ?_⟩⟩⟩
  rw [cl, cr, l5, r5, nI_1, nI_1]
  refine pk_le hl (hr + 1) (fun z => ⟨vr, vl, pk_le hr (hl + 1) (fun z2 => ?_) (fun z2 => ?_)⟩) (fun z => ?_)
  · exact H n _ _ _ _ _ _ _ agW (gc_sub_mk n0 n1 h3 h4 z z2 f0 tl tr) ⟨by omega, by omega, fun _ _ => rfl⟩
  · -- right heavy
    have rz : r ≠ 0 := by
      intro e
      rw [e] at tr
      have := (gc_sub_z tr).1
      omega
    obtain ⟨x, y, hx, hy, X, Y, e, r0, r1, g3, g4, eL, g6, g7, fr1, sx, sy⟩ := gc_sub_nz tr rz
    have x40 := (gc_sub_fa sx).1
    have y40 := (gc_sub_fa sy).1
    have vx : vp_in (nI x) 41 := vp_in_nI (by omega) (by omega)
    have vy : vp_in (nI y) 41 := vp_in_nI (by omega) (by omega)
    rw [g3, g4, nI_clamp (show x < 2 ^ 31 by omega), nI_clamp (show y < 2 ^ 31 by omega), (gc_sub_fa sx).2.1, (gc_sub_fa sy).2.1]
    rw [eL] at nd agW H
    refine ⟨vr, vy, vr, vx, pk_le hx hy (fun w => ?_) (fun w => ?_)⟩
    · refine gc_bal131 n0 n1 r0 r1 h3 h4 g3 g4 tl sx sy nd (by omega) (by omega) (by omega) (by omega) (by omega) (by omega) (by omega) (fun c3 c4 c5 c6 c7 c8 ag2 s2 => ?_)
      refine H r _ _ _ _ _ _ _ (gc_ag_tr agW ag2 (fun _ q => q) (by simp)) s2 ⟨by omega, by omega, fun _ _ => by omega⟩
    · have xz : x ≠ 0 := by
        intro e
        rw [e] at sx
        have := (gc_sub_z sx).1
        omega
      obtain ⟨u, v, hu, hv, U, V, e2, x0, x1, k3, k4, rfl, k6, k7, fx1, su, sv⟩ := gc_sub_nz sx xz
      have nd0 := nd
      simp only [List.nodup_append, List.nodup_cons, List.mem_append, List.mem_cons] at nd
      have rx : r ≠ x := by grind
      have nx : n ≠ x := by grind
      have nr : n ≠ r := by grind
      have dU : r ∉ U ∧ x ∉ U ∧ n ∉ U := by grind
      have dV : r ∉ V ∧ x ∉ V ∧ n ∉ V := by grind
      have dY : r ∉ Y ∧ x ∉ Y ∧ n ∉ Y := by grind
      have dL : r ∉ L1 ∧ x ∉ L1 ∧ n ∉ L1 := by grind
      rw [gc_turnR_2]
      refine gc_turnR r1 x1 rx g3 g4 k3 k4 (gc_sub_fa su) (gc_sub_fa sv) (gc_sub_fa sy) (by omega) (by omega) (by omega) (gc_ne sy (by omega) dY.1) (gc_ne sy (by omega) dY.2.1) (gc_ne su (by omega) dU.1) (gc_ne su (by omega) dU.2.1) (gc_ne sv (by omega) dV.1) (gc_ne sv (by omega) dV.2.1) (fun c3 c4 c5 c6 c7 c8 ag2 e3 e4 j3 j4 f1 f2 => ?_)
      dsimp only
      refine ⟨vn, nm_e ?_⟩
      have ag3 : gc_ag [r, x, n] a3 a4 b5 b6 b7 b8 c3 (upd c4 n (nI x)) c5 c6 c7 c8 := by
        intro z hz
        have zn : z ≠ n := fun e => hz (by simp [e])
        obtain ⟨w3, w4, w5, w6, w7, w8⟩ := ag2 z (fun q => hz (by simp at q ⊢; omega))
        exact ⟨w3, by rw [pk_un zn, w4], w5, w6, w7, w8⟩
      have z3 : 0 ∉ [r, x, n] := by simp; omega
      have tr3 : ∀ (g w : Nat) (W : List Nat), r ∉ W ∧ x ∉ W ∧ n ∉ W → gc_sub a1 a2 a3 a4 b5 b6 b7 b8 g w W → gc_sub a1 a2 c3 (upd c4 n (nI x)) c5 c6 c7 c8 g w W := fun g w W hW s => gc_sub_ag ag3 z3 (fun z hz => by simp; exact ⟨fun e => hW.1 (e ▸ hz), fun e => hW.2.1 (e ▸ hz), fun e => hW.2.2 (e ▸ hz)⟩) s
      have w3 : c3 n = nI l := by rw [(ag2 n (by simp; exact ⟨nr, nx⟩)).1, h3]
      have w4 : upd c4 n (nI x) n = nI x := pk_us
      have w5 : upd c4 n (nI x) x = nI r := by rw [pk_un (fun q => nx q.symm), j4]
      have w6 : upd c4 n (nI x) r = nI y := by rw [pk_un (fun q => nr q.symm), e4]
      have sr2 := gc_sub_mk (a3 := c3) (a4 := upd c4 n (nI x)) r0 r1 e3 w6 (by omega) (by omega) f1 (tr3 _ _ _ dV sv) (tr3 _ _ _ dY sy)
      have eq : L1 ++ n :: (U ++ x :: V ++ r :: Y) = L1 ++ n :: (U ++ x :: (V ++ r :: Y)) := by simp
      rw [eq] at agW H nd0
      refine gc_bal131 n0 n1 x0 x1 w3 w4 j3 w5 (tr3 _ _ _ dL tl) (tr3 _ _ _ dU su) sr2 nd0 (by omega) (by omega) (by omega) (by omega) (by omega) (by omega) (by omega) (fun d3 d4 d5 d6 d7 d8 ag4 s4 => ?_)
      refine H x _ _ _ _ _ _ _ (gc_ag_tr (gc_ag_tr agW ag3 (fun _ q => q) (by simp)) ag4 (fun _ q => q) (by simp)) s4 ⟨by omega, by omega, fun _ _ => by omega⟩
  · -- left heavy
    have lz : l ≠ 0 := by
      intro e
      rw [e] at tl
      have := (gc_sub_z tl).1
      omega
    obtain ⟨x, y, hx, hy, X, Y, e, l0, l1, g3, g4, eL, g6, g7, fl1, sx, sy⟩ := gc_sub_nz tl lz
    have x40 := (gc_sub_fa sx).1
    have y40 := (gc_sub_fa sy).1
    have vx : vp_in (nI x) 41 := vp_in_nI (by omega) (by omega)
    have vy : vp_in (nI y) 41 := vp_in_nI (by omega) (by omega)
    rw [g3, g4, nI_clamp (show x < 2 ^ 31 by omega), nI_clamp (show y < 2 ^ 31 by omega), (gc_sub_fa sx).2.1, (gc_sub_fa sy).2.1]
    rw [eL] at nd agW H
    refine ⟨vl, vx, vl, vy, pk_le hy hx (fun w => ?_) (fun w => ?_)⟩
    · refine gc_bal72 n0 n1 l0 l1 h3 h4 g3 g4 sx sy tr nd (by omega) (by omega) (by omega) (by omega) (by omega) (by omega) (by omega) (fun c3 c4 c5 c6 c7 c8 ag2 s2 => ?_)
      refine H l _ _ _ _ _ _ _ (gc_ag_tr agW ag2 (fun _ q => q) (by simp)) s2 ⟨by omega, by omega, fun _ _ => by omega⟩
    · have yz : y ≠ 0 := by
        intro e
        rw [e] at sy
        have := (gc_sub_z sy).1
        omega
      obtain ⟨u, v, hu, hv, U, V, e2, y0, y1, k3, k4, rfl, k6, k7, fy1, su, sv⟩ := gc_sub_nz sy yz
      have nd0 := nd
      simp only [List.nodup_append, List.nodup_cons, List.mem_append, List.mem_cons] at nd
      have ly : l ≠ y := by grind
      have ny : n ≠ y := by grind
      have nl : n ≠ l := by grind
      have dU : l ∉ U ∧ y ∉ U ∧ n ∉ U := by grind
      have dV : l ∉ V ∧ y ∉ V ∧ n ∉ V := by grind
      have dX : l ∉ X ∧ y ∉ X ∧ n ∉ X := by grind
      have dR : l ∉ L2 ∧ y ∉ L2 ∧ n ∉ L2 := by grind
      rw [gc_turnL_2]
      refine gc_turnL l1 y1 ly g3 g4 k3 k4 (gc_sub_fa sx) (gc_sub_fa su) (gc_sub_fa sv) (by omega) (by omega) (by omega) (gc_ne sx (by omega) dX.1) (gc_ne sx (by omega) dX.2.1) (gc_ne su (by omega) dU.1) (gc_ne su (by omega) dU.2.1) (gc_ne sv (by omega) dV.1) (gc_ne sv (by omega) dV.2.1) (fun c3 c4 c5 c6 c7 c8 ag2 e3 e4 j3 j4 f1 f2 => ?_)
      dsimp only
      refine ⟨vn, nm_e ?_⟩
      have ag3 : gc_ag [l, y, n] a3 a4 b5 b6 b7 b8 (upd c3 n (nI y)) c4 c5 c6 c7 c8 := by
        intro z hz
        have zn : z ≠ n := fun e => hz (by simp [e])
        obtain ⟨w3, w4, w5, w6, w7, w8⟩ := ag2 z (fun q => hz (by simp at q ⊢; omega))
        exact ⟨by rw [pk_un zn, w3], w4, w5, w6, w7, w8⟩
      have z3 : 0 ∉ [l, y, n] := by simp; omega
      have tr3 : ∀ (g w : Nat) (W : List Nat), l ∉ W ∧ y ∉ W ∧ n ∉ W → gc_sub a1 a2 a3 a4 b5 b6 b7 b8 g w W → gc_sub a1 a2 (upd c3 n (nI y)) c4 c5 c6 c7 c8 g w W := fun g w W hW s => gc_sub_ag ag3 z3 (fun z hz => by simp; exact ⟨fun e => hW.1 (e ▸ hz), fun e => hW.2.1 (e ▸ hz), fun e => hW.2.2 (e ▸ hz)⟩) s
      have w3 : upd c3 n (nI y) n = nI y := pk_us
      have w4 : c4 n = nI r := by rw [(ag2 n (by simp; exact ⟨nl, ny⟩)).2.1, h4]
      have w5 : upd c3 n (nI y) y = nI l := by rw [pk_un (fun q => ny q.symm), j3]
      have w6 : upd c3 n (nI y) l = nI x := by rw [pk_un (fun q => nl q.symm), e3]
      have sl2 := gc_sub_mk (a3 := upd c3 n (nI y)) (a4 := c4) l0 l1 w6 e4 (by omega) (by omega) f1 (tr3 _ _ _ dX sx) (tr3 _ _ _ dU su)
      have eq : X ++ l :: (U ++ y :: V) ++ n :: L2 = (X ++ l :: U) ++ y :: V ++ n :: L2 := by simp
      rw [eq] at agW H nd0
      refine gc_bal72 n0 n1 y0 y1 w3 w4 w5 j4 sl2 (tr3 _ _ _ dV sv) (tr3 _ _ _ dR tr) nd0 (by omega) (by omega) (by omega) (by omega) (by omega) (by omega) (by omega) (fun d3 d4 d5 d6 d7 d8 ag4 s4 => ?_)
      refine H y _ _ _ _ _ _ _ (gc_ag_tr (gc_ag_tr agW ag3 (fun _ q => q) (by simp)) ag4 (fun _ q => q) (by simp)) s4 ⟨by omega, by omega, fun _ _ => by omega⟩
end
section
def gc_mp (rt : Int32) (a1 : Nat → Int64) (a2 a3 a4 a5 a6 a7 a8 a9 : Nat → Int32) (L : List Nat) : Nat → Prop
  | 0 => ∃ ρ h : Nat, rt = nI ρ ∧ gc_sub a1 a2 a3 a4 a5 a6 a7 a8 h ρ L
  | k + 1 => ∃ (n l r hl hr H : Nat) (L1 L2 A B : List Nat), 1 ≤ n ∧ n ≤ 40 ∧ a9 k = nI n ∧ a3 n = nI l ∧ a4 n = nI r ∧ gc_sub a1 a2 a3 a4 a5 a6 a7 a8 hl l L1 ∧ gc_sub a1 a2 a3 a4 a5 a6 a7 a8 hr r L2 ∧ hl ≤ hr + 2 ∧ hr ≤ hl + 2 ∧ gc_cx a1 a2 a3 a4 a5 a6 a7 a8 a9 k n H A B ∧ L = A ++ ((L1 ++ n :: L2) ++ B) ∧ (∀ h', gc_hr hl hr h' → h' ≤ H + 1 ∧ H ≤ h' + 1)
theorem gc_mendL {post : St1 → Prop} {fn dp fl ce sb sa en : Int32} {a1 : Nat → Int64} {a2 a9 a10 a11 a12 a13 a14 : Nat → Int32} {L : List Nat} (nd : L.Nodup) (len : L.length ≤ 40) :
    ∀ (k fu : Nat) (rt : Int32) (a3 a4 a5 a6 a7 a8 : Nat → Int32), k < fu → k ≤ 16 → gc_mp rt a1 a2 a3 a4 a5 a6 a7 a8 a9 L k → (∀ (ρ h : Nat) (b3 b4 b5 b6 b7 b8 : Nat → Int32), gc_sub a1 a2 b3 b4 b5 b6 b7 b8 h ρ L → gc_ag L a3 a4 a5 a6 a7 a8 b3 b4 b5 b6 b7 b8 → post (nI ρ, fn, dp, fl, ce, sb, sa, en, a1, a2, b3, b4, b5, b6, b7, b8, a9, a10, a11, a12, a13, a14)) → wX_mendPath_7 post fu (nI k + (-1)) rt fn dp fl ce sb sa en a1 a2 a3 a4 a5 a6 a7 a8 a9 a10 a11 a12 a13 a14 := by
  intro k
  induction k with
  | zero =>
    intro fu rt a3 a4 a5 a6 a7 a8 hf hk hm H
    obtain ⟨fu, rfl⟩ : ∃ j, fu = j + 1 := ⟨fu - 1, by omega⟩
    obtain ⟨ρ, h, rfl, s⟩ := hm
    exact br_t (by decide) (H ρ h _ _ _ _ _ _ s gc_ag_refl)
  | succ k ih =>
    intro fu rt a3 a4 a5 a6 a7 a8 hf hk hm H
    obtain ⟨fu, rfl⟩ : ∃ j, fu = j + 1 := ⟨fu - 1, by omega⟩
    obtain ⟨n, l, r, hl, hr, N, L1, L2, A, B, n0, n1, e9, h3, h4, sl, sr, q1, q2, cx, eL, hh⟩ := hm
    have len2 := len
    have nd2 := nd
    rw [eL] at len2 nd2
    simp only [List.length_append, List.length_cons] at len2
    have bl := gc_sub_h sl (by omega)
    have br := gc_sub_h sr (by omega)
    have ndM : (L1 ++ n :: L2).Nodup := (List.nodup_append.mp (List.nodup_append.mp nd2).2.1).1
    have inL : ∀ x, x ∈ L1 ++ n :: L2 → x ∈ L := fun x hx => by rw [eL]; simp only [List.mem_append] at hx ⊢; grind
    have zM : 0 ∉ L1 ++ n :: L2 := by
      intro q
      rcases List.mem_append.mp q with q | q
      · exact absurd (gc_sub_rng sl 0 q).1 (by omega)
      · rcases List.mem_cons.mp q with q | q
        · omega
        · exact absurd (gc_sub_rng sr 0 q).1 (by omega)
    have cn : (nI n).toNatClampNeg = n := nI_clamp (by omega)
    rw [pk_m1]
    refine br_f (nI_pos (by omega)) ⟨vp_in_nI (by omega) (by omega), nm_r (by rw [nI_clamp (by omega), e9]) ?_⟩
    refine gc_balance n0 n1 h3 h4 sl sr ndM q1 q2 (by omega) (by omega) (fun top h' b3 b4 b5 b6 b7 b8 ag s' hrel => ?_)
    have t40 := (gc_sub_fa s').1
    obtain ⟨hh1, hh2⟩ := hh h' hrel
    generalize eM : L1 ++ n :: L2 = M at ag s' ndM inL zM eL nd2
    have nM : n ∈ M := by rw [← eM]; simp
    have agL : gc_ag L a3 a4 a5 a6 a7 a8 b3 b4 b5 b6 b7 b8 := gc_ag_tr ag gc_ag_refl inL (fun _ q => q)
    dsimp only
    cases k with
    | zero =>
      obtain ⟨rfl, rfl⟩ := cx
      refine pk_eq 0 0 (fun _ => nm_e ?_) (fun z => absurd rfl z)
      rw [List.nil_append, List.append_nil] at eL
      exact ih fu (nI top) b3 b4 b5 b6 b7 b8 (by omega) (by omega) ⟨top, h', rfl, by rw [eL]; exact s'⟩ (fun ρ h c3 c4 c5 c6 c7 c8 hs hg => H ρ h c3 c4 c5 c6 c7 c8 hs (gc_ag_tr agL hg (fun _ q => q) (fun _ q => q)))
    | succ k =>
      refine pk_eq (k + 1) 0 (fun z => absurd z (by omega)) (fun _ => ?_)
      obtain ⟨p, p0, p1, f9, cx⟩ := cx
      have vp : vp_in (nI p) 41 := vp_in_nI (by omega) (by omega)
      have cp : (nI p).toNatClampNeg = p := nI_clamp (by omega)
      rcases cx with ⟨r', hr', R, B', g3, g4, sR, rfl, w1, w2, cx⟩ | ⟨l', hl', Q, A', g3, g4, sQ, rfl, w1, w2, cx⟩
      · have dj := nd2
        simp only [List.nodup_append, List.nodup_cons, List.mem_append, List.mem_cons] at dj
        have pM : p ∉ M := by grind
        have dR : ∀ x, x ∈ R → x ∉ M ∧ x ≠ p := by grind
        have dA : ∀ x, x ∈ A → x ∉ M ∧ x ≠ p := by grind
        have dB : ∀ x, x ∈ B' → x ∉ M ∧ x ≠ p := by grind
        have pL : p ∈ L := by rw [eL]; simp
        have eq : A ++ (M ++ p :: (R ++ B')) = A ++ ((M ++ p :: R) ++ B') := by simp
        have b3p : b3 p = nI n := by rw [(ag p pM).1, g3]
        have b4p : b4 p = nI r' := by rw [(ag p pM).2.1, g4]
        have next : ∀ (rt : Int32) (c3 c4 : Nat → Int32), gc_ag [p] b3 b4 b5 b6 b7 b8 c3 c4 b5 b6 b7 b8 → c3 p = nI top → c4 p = nI r' → gc_mp rt a1 a2 c3 c4 b5 b6 b7 b8 a9 L (k + 1) := by
          intro rt c3 c4 ag2 k3 k4
          have ag3 : gc_ag (p :: M) a3 a4 a5 a6 a7 a8 c3 c4 b5 b6 b7 b8 := gc_ag_tr ag ag2 (by simp; grind) (by simp)
          have z3 : 0 ∉ p :: M := by simp; exact ⟨by omega, zM⟩
          refine ⟨p, top, r', h', hr', max N hr' + 1, M, R, A, B', p0, p1, f9, k3, k4, gc_sub_ag ag2 (by simp; omega) (by grind) s', gc_sub_ag ag3 z3 (by grind) sR, by omega, by omega, gc_cx_ag ag3 z3 (by grind) (by grind) cx, by rw [eL, eq], fun h2 hq => ?_⟩
          unfold gc_hr at hq
          omega
        refine pk_eq top n (fun z => nm_e ?_) (fun z => ?_)
        · refine ih fu rt b3 b4 b5 b6 b7 b8 (by omega) (by omega) (next rt b3 b4 gc_ag_refl (by rw [b3p, z]) b4p) (fun ρ h c3 c4 c5 c6 c7 c8 hs hg => H ρ h c3 c4 c5 c6 c7 c8 hs (gc_ag_tr agL hg (fun _ q => q) (fun _ q => q)))
        · rw [nI_pred, nI_clamp (show k < 2 ^ 31 by omega), f9]
          refine ⟨vp_in_nI (by omega) (by omega), nm_e ⟨vp, ?_⟩⟩
          rw [cp, b3p]
          refine br_t rfl ?_
          unfold wX_mendPath_70 wpX_attach
          dsimp only
          rw [cp]
          refine br_f (by decide) ⟨vp, nm_e (nm_e ?_)⟩
          have ag2 : gc_ag [p] b3 b4 b5 b6 b7 b8 (upd b3 p (nI top)) b4 b5 b6 b7 b8 := fun x hx => ⟨pk_un (by simpa using hx), rfl, rfl, rfl, rfl, rfl⟩
          refine ih fu rt (upd b3 p (nI top)) b4 b5 b6 b7 b8 (by omega) (by omega) (next rt _ _ ag2 pk_us b4p) (fun ρ h c3 c4 c5 c6 c7 c8 hs hg => H ρ h c3 c4 c5 c6 c7 c8 hs (gc_ag_tr (gc_ag_tr agL ag2 (fun _ q => q) (by simp; exact pL)) hg (fun _ q => q) (fun _ q => q)))
      · have dj := nd2
        simp only [List.nodup_append, List.nodup_cons, List.mem_append, List.mem_cons, List.not_mem_nil, or_false] at dj
        have pM : p ∉ M := by grind
        have dR : ∀ x, x ∈ Q → x ∉ M ∧ x ≠ p := by grind
        have dA : ∀ x, x ∈ A' → x ∉ M ∧ x ≠ p := by grind
        have dB : ∀ x, x ∈ B → x ∉ M ∧ x ≠ p := by grind
        have nQ : n ∉ Q := fun q => (dR n q).1 nM
        have l40 := (gc_sub_fa sQ).1
        have ln : l' ≠ n := gc_ne sQ (by omega) nQ
        have pL : p ∈ L := by rw [eL]; simp
        have eq : A' ++ (Q ++ [p]) ++ (M ++ B) = A' ++ ((Q ++ p :: M) ++ B) := by simp
        have b3p : b3 p = nI l' := by rw [(ag p pM).1, g3]
        have b4p : b4 p = nI n := by rw [(ag p pM).2.1, g4]
        have next : ∀ (rt : Int32) (c3 c4 : Nat → Int32), gc_ag [p] b3 b4 b5 b6 b7 b8 c3 c4 b5 b6 b7 b8 → c3 p = nI l' → c4 p = nI top → gc_mp rt a1 a2 c3 c4 b5 b6 b7 b8 a9 L (k + 1) := by
          intro rt c3 c4 ag2 k3 k4
          have ag3 : gc_ag (p :: M) a3 a4 a5 a6 a7 a8 c3 c4 b5 b6 b7 b8 := gc_ag_tr ag ag2 (by simp; grind) (by simp)
          have z3 : 0 ∉ p :: M := by simp; exact ⟨by omega, zM⟩
          refine ⟨p, l', top, hl', h', max hl' N + 1, Q, M, A', B, p0, p1, f9, k3, k4, gc_sub_ag ag3 z3 (by grind) sQ, gc_sub_ag ag2 (by simp; omega) (by grind) s', by omega, by omega, gc_cx_ag ag3 z3 (by grind) (by grind) cx, by rw [eL, eq], fun h2 hq => ?_⟩
          unfold gc_hr at hq
          omega
        refine pk_eq top n (fun z => nm_e ?_) (fun z => ?_)
        · refine ih fu rt b3 b4 b5 b6 b7 b8 (by omega) (by omega) (next rt b3 b4 gc_ag_refl b3p (by rw [b4p, z])) (fun ρ h c3 c4 c5 c6 c7 c8 hs hg => H ρ h c3 c4 c5 c6 c7 c8 hs (gc_ag_tr agL hg (fun _ q => q) (fun _ q => q)))
        · rw [nI_pred, nI_clamp (show k < 2 ^ 31 by omega), f9]
          refine ⟨vp_in_nI (by omega) (by omega), nm_e ⟨vp, ?_⟩⟩
          rw [cp, b3p]
          refine br_f (fun q => ln ((nI_eq (by omega) (by omega)).mp q)) ?_
          unfold wX_mendPath_70 wpX_attach
          dsimp only
          rw [cp]
          refine br_t rfl ⟨vp, nm_e (nm_e ?_)⟩
          have ag2 : gc_ag [p] b3 b4 b5 b6 b7 b8 b3 (upd b4 p (nI top)) b5 b6 b7 b8 := fun x hx => ⟨rfl, pk_un (by simpa using hx), rfl, rfl, rfl, rfl⟩
          refine ih fu rt b3 (upd b4 p (nI top)) b5 b6 b7 b8 (by omega) (by omega) (next rt _ _ ag2 b3p pk_us) (fun ρ h c3 c4 c5 c6 c7 c8 hs hg => H ρ h c3 c4 c5 c6 c7 c8 hs (gc_ag_tr (gc_ag_tr agL ag2 (fun _ q => q) (by simp; exact pL)) hg (fun _ q => q) (fun _ q => q)))
theorem gc_mend {post : St1 → Prop} {rt fn fl ce sb sa en : Int32} {a1 : Nat → Int64} {a2 a3 a4 a5 a6 a7 a8 a9 a10 a11 a12 a13 a14 : Nat → Int32} {L : List Nat} {k : Nat} (nd : L.Nodup) (len : L.length ≤ 40) (hk : k ≤ 16) (hm : gc_mp rt a1 a2 a3 a4 a5 a6 a7 a8 a9 L k)
    (H : ∀ (ρ h : Nat) (b3 b4 b5 b6 b7 b8 : Nat → Int32), gc_sub a1 a2 b3 b4 b5 b6 b7 b8 h ρ L → gc_ag L a3 a4 a5 a6 a7 a8 b3 b4 b5 b6 b7 b8 → post (nI ρ, fn, nI k, fl, ce, sb, sa, en, a1, a2, b3, b4, b5, b6, b7, b8, a9, a10, a11, a12, a13, a14)) : wpX_mendPath post (rt, fn, nI k, fl, ce, sb, sa, en, a1, a2, a3, a4, a5, a6, a7, a8, a9, a10, a11, a12, a13, a14) := by
  unfold wpX_mendPath
  refine nm_r (e' := nI k + (-1)) ?_ ⟨k + 1, gc_mendL nd len k (k + 1) rt a3 a4 a5 a6 a7 a8 (by omega) hk hm H⟩
  rw [Int32.sub_eq_add_neg]
end
section
def gc_fr (a3 : Nat → Int32) : Int32 → List Nat → Prop
  | _, [] => True
  | fn, x :: F => fn = nI x ∧ gc_fr a3 (a3 x) F
theorem gc_fr_congr {a3 b3 : Nat → Int32} {F : List Nat} : ∀ {fn : Int32}, (∀ x, x ∈ F → b3 x = a3 x) → gc_fr a3 fn F → gc_fr b3 fn F := by
  induction F with
  | nil => intro fn _ _; exact True.intro
  | cons x F ih =>
    intro fn h s
    obtain ⟨e, s⟩ := s
    refine ⟨e, ?_⟩
    rw [h x (by simp)]
    exact ih (fun y hy => h y (by simp [hy])) s
def gc_T (rt fn : Int32) (a1 : Nat → Int64) (a2 a3 a4 a5 a6 a7 a8 : Nat → Int32) (C : List (Int64 × Int32)) : Prop :=
  ∃ (L F : List Nat) (ρ h : Nat), rt = nI ρ ∧ gc_sub a1 a2 a3 a4 a5 a6 a7 a8 h ρ L ∧ gc_fr a3 fn F ∧ (L ++ F).Nodup ∧ (∀ x, x ∈ F → 1 ≤ x ∧ x ≤ 40) ∧ L.length + F.length = 40 ∧ C = gc_cn a1 a2 L ∧ gc_so C ∧ gc_pos C ∧ gc_tot C ≤ 40
def gc_ch (p : Int64) (C C' : List (Int64 × Int32)) : Prop := gc_so C' ∧ gc_pos C' ∧ (∀ q : Int64 → Bool, q p = false → C'.filter (fun c => q c.1) = C.filter (fun c => q c.1))
theorem gc_C_set {X Y : List (Int64 × Int32)} {p : Int64} {v w : Int32} {t : Nat} (so : gc_so (X ++ (p, v) :: Y)) (po : gc_pos (X ++ (p, v) :: Y)) (t1 : 1 ≤ t) (t2 : t ≤ 40) (hw : w = nI t) : gc_ch p (X ++ (p, v) :: Y) (X ++ (p, w) :: Y) := by
  obtain ⟨s1, s2, s3, s4, s5⟩ := gc_so_mid so
  refine ⟨gc_so_mk s1 s2 s3 s4, fun c hc => ?_, fun q hq => ?_⟩
  · rcases List.mem_append.mp hc with g | g
    · exact po c (by simp [g])
    · rcases List.mem_cons.mp g with g | g
      · rw [g]; exact ⟨t, t1, t2, hw⟩
      · exact po c (by simp [g])
  · rw [List.filter_append, List.filter_append, List.filter_cons, List.filter_cons]
    simp [hq]
theorem gc_C_ins {X Y : List (Int64 × Int32)} {p : Int64} (so : gc_so (X ++ Y)) (po : gc_pos (X ++ Y)) (hX : ∀ c, c ∈ X → c.1 < p) (hY : ∀ c, c ∈ Y → p < c.1) : gc_ch p (X ++ Y) (X ++ (p, 1) :: Y) := by
  have s := List.pairwise_append.mp so
  refine ⟨gc_so_mk s.1 s.2.1 hX hY, fun c hc => ?_, fun q hq => ?_⟩
  · rcases List.mem_append.mp hc with g | g
    · exact po c (by simp [g])
    · rcases List.mem_cons.mp g with g | g
      · rw [g]; exact ⟨1, by omega, by omega, rfl⟩
      · exact po c (by simp [g])
  · rw [List.filter_append, List.filter_append, List.filter_cons]
    simp [hq]
theorem gc_C_del {X Y : List (Int64 × Int32)} {p : Int64} {v : Int32} (so : gc_so (X ++ (p, v) :: Y)) (po : gc_pos (X ++ (p, v) :: Y)) : gc_ch p (X ++ (p, v) :: Y) (X ++ Y) := by
  obtain ⟨s1, s2, s3, s4, s5⟩ := gc_so_mid so
  refine ⟨List.pairwise_append.mpr ⟨s1, s2, s5⟩, fun c hc => ?_, fun q hq => ?_⟩
  · rcases List.mem_append.mp hc with g | g
    · exact po c (by simp [g])
    · exact po c (by simp [g])
  · rw [List.filter_append, List.filter_append, List.filter_cons]
    simp [hq]
theorem gc_newNode {post : Int32 → St1 → Prop} {p : Int64} {rt dp fl ce sb sa en : Int32} {a1 : Nat → Int64} {a2 a3 a4 a5 a6 a7 a8 a9 a10 a11 a12 a13 a14 : Nat → Int32} {f : Nat} (f0 : 1 ≤ f) (f1 : f ≤ 40) (zf : gc_fa a1 a2 a5 a6 a7 a8 0 0 [])
    (H : ∀ b5 b6 b7 b8 : Nat → Int32, (∀ x, x ≠ f → b5 x = a5 x ∧ b6 x = a6 x ∧ b7 x = a7 x ∧ b8 x = a8 x) → gc_sub (vp_updL a1 f p) (upd a2 f 1) (upd a3 f 0) (upd a4 f 0) b5 b6 b7 b8 1 f [f] → post (nI f) (rt, a3 f, dp, fl, ce, sb, sa, en, vp_updL a1 f p, upd a2 f 1, upd a3 f 0, upd a4 f 0, b5, b6, b7, b8, a9, a10, a11, a12, a13, a14)) : wpX_newNode post (rt, nI f, dp, fl, ce, sb, sa, en, a1, a2, a3, a4, a5, a6, a7, a8, a9, a10, a11, a12, a13, a14) p := by
  have cf : (nI f).toNatClampNeg = f := nI_clamp (by omega)
  have vf : vp_in (nI f) 41 := vp_in_nI (by omega) (by omega)
  have zf' : gc_fa (vp_updL a1 f p) (upd a2 f 1) a5 a6 a7 a8 0 0 [] := gc_fa_congr (fun x hx => absurd hx (by simp)) rfl rfl rfl rfl zf
  unfold wpX_newNode
  dsimp only
  rw [cf]
  refine ⟨vf, nm_e ⟨vf, nm_e ⟨vf, nm_e ⟨vf, nm_e ⟨vf, nm_e ?_⟩⟩⟩⟩⟩
  have e3 : upd a3 f 0 f = nI 0 := pk_us
  have e4 : upd a4 f 0 f = nI 0 := pk_us
  refine gc_update f1 e3 e4 zf' zf' (by omega) (by omega) (fun b5 b6 b7 b8 hb ff => ?_)
  obtain ⟨z5, z6, z7, z8⟩ := hb 0 (by omega)
  have zf2 : gc_fa (vp_updL a1 f p) (upd a2 f 1) b5 b6 b7 b8 0 0 [] := gc_fa_congr (fun x hx => absurd hx (by simp)) z5 z6 z7 z8 zf'
  have s0 : gc_sub (vp_updL a1 f p) (upd a2 f 1) (upd a3 f 0) (upd a4 f 0) b5 b6 b7 b8 0 0 [] := gc_sub0.mpr ⟨rfl, rfl, zf2⟩
  exact H b5 b6 b7 b8 hb (gc_sub_mk (hl := 0) (hr := 0) (L1 := []) (L2 := []) f0 f1 e3 e4 (by omega) (by omega) ff s0 s0)
theorem gc_addL {post : St1 → Prop} {p : Int64} {rt fn fl ce sb sa en : Int32} {a1 : Nat → Int64} {a2 a3 a4 a5 a6 a7 a8 a10 a11 a12 a13 a14 : Nat → Int32} {L : List Nat} (so : L.Pairwise (fun x y => a1 x < a1 y))
    (F1 : ∀ (d n l r hl hr : Nat) (L1 L2 A B : List Nat) (a9 : Nat → Int32), 1 ≤ n → n ≤ 40 → a3 n = nI l → a4 n = nI r → hl ≤ hr + 1 → hr ≤ hl + 1 → gc_sub a1 a2 a3 a4 a5 a6 a7 a8 hl l L1 → gc_sub a1 a2 a3 a4 a5 a6 a7 a8 hr r L2 → a1 n = p → gc_cx a1 a2 a3 a4 a5 a6 a7 a8 a9 d n (max hl hr + 1) A B → a9 d = nI n → L = A ++ ((L1 ++ n :: L2) ++ B) → d ≤ 15 → wX_add_93 post p (nI n) 1 rt fn (nI (d + 1)) fl ce sb sa en a1 a2 a3 a4 a5 a6 a7 a8 a9 a10 a11 a12 a13 a14)
    (F2 : ∀ (d : Nat) (A B : List Nat) (a9 : Nat → Int32), gc_cx a1 a2 a3 a4 a5 a6 a7 a8 a9 d 0 0 A B → L = A ++ B → (∀ x, x ∈ A → a1 x < p) → (∀ x, x ∈ B → p < a1 x) → d ≤ 15 → wX_add_93 post p 0 0 rt fn (nI d) fl ce sb sa en a1 a2 a3 a4 a5 a6 a7 a8 a9 a10 a11 a12 a13 a14) :
    ∀ (h n d : Nat) (M A B : List Nat) (a9 : Nat → Int32) (fu : Nat), gc_sub a1 a2 a3 a4 a5 a6 a7 a8 h n M → gc_cx a1 a2 a3 a4 a5 a6 a7 a8 a9 d n h A B → L = A ++ (M ++ B) → (∀ x, x ∈ A → a1 x < p) → (∀ x, x ∈ B → p < a1 x) → d + h ≤ 15 → h + 1 < fu → wX_add_16 post p fu (nI n) 0 (nI d) rt fn (nI d) fl ce sb sa en a1 a2 a3 a4 a5 a6 a7 a8 a9 a10 a11 a12 a13 a14 := by
  intro h
  induction h using Nat.strongRecOn with
  | ind h ih =>
    intro n d M A B a9 fu hs cx eL hA hB hd hf
    obtain ⟨fu, rfl⟩ : ∃ k, fu = k + 1 := ⟨fu - 1, by omega⟩
    by_cases hn : n = 0
    · subst hn
      obtain ⟨rfl, rfl⟩ := gc_sub_z hs
      exact pk_le 16 d (fun z => absurd z (by omega)) (fun _ => br_t (c := nI 0 = 0) nI_0 (F2 d A B a9 cx (by rw [eL]; simp) hA hB (by omega)))
    · obtain ⟨l, r, hl, hr, L1, L2, rfl, h1, h2, h3, h4, rfl, h6, h7, f, s1, s2⟩ := gc_sub_nz hs hn
      have cl : (nI n).toNatClampNeg = n := nI_clamp (by omega)
      have cd : (nI d).toNatClampNeg = d := nI_clamp (by omega)
      have vn : vp_in (nI n) 41 := vp_in_nI (by omega) (by omega)
      refine pk_le 16 d (fun z => absurd z (by omega)) (fun _ => br_f (nI_ne0 (by omega) (by omega)) (br_t rfl ?_))
      unfold wpX_step
      refine ⟨vp_in_nI (by omega) (by omega), nm_e (nm_r (nI_1 d) ?_)⟩
      dsimp only
      rw [cl, cd]
      have e9 : upd a9 d (nI n) d = nI n := pk_us
      have cx' := gc_cx_congr (b9 := upd a9 d (nI n)) (fun x _ => ⟨rfl, rfl, rfl, rfl, rfl, rfl, rfl, rfl⟩) (fun j hj => pk_un (by omega)) cx
      have so2 : (L1 ++ n :: L2).Pairwise (fun x y => a1 x < a1 y) := by
        rw [eL] at so
        exact (List.pairwise_append.mp (List.pairwise_append.mp so).2.1).1
      rw [List.pairwise_append, List.pairwise_cons] at so2
      obtain ⟨so1, ⟨so3, so4⟩, so5⟩ := so2
      refine ⟨vn, br_c (fun g => ?_) (fun g => ?_)⟩
      · unfold wX_add_53
        refine br_f (by decide) (nm_r (nI_1 d) ?_)
        obtain ⟨fu, rfl⟩ : ∃ k, fu = k + 1 := ⟨fu - 1, by omega⟩
        have Q := F1 d n l r hl hr L1 L2 A B (upd a9 d (nI n)) h1 h2 h3 h4 h6 h7 s1 s2 g cx' e9 eL (by omega)
        exact pk_le 16 (d + 1) (fun z => Q) (fun _ => br_f (nI_ne0 (by omega) (by omega)) (br_f (by decide) Q))
      · unfold wX_add_53
        rw [cl, h3, h4]
        refine br_t rfl ⟨vn, br_c (fun g2 => ⟨vn, nm_e (nm_r (nI_1 d) (ih hr (by omega) r (d + 1) L2 (A ++ (L1 ++ [n])) B (upd a9 d (nI n)) fu s2 ⟨n, h1, h2, e9, Or.inr ⟨l, hl, L1, A, h3, h4, s1, rfl, by omega, by omega, cx'⟩⟩ (by rw [eL]; simp) ?_ hB (by omega) (by omega)))⟩) (fun g2 => ⟨vn, nm_e (nm_r (nI_1 d) (ih hl (by omega) l (d + 1) L1 A (n :: (L2 ++ B)) (upd a9 d (nI n)) fu s1 ⟨n, h1, h2, e9, Or.inl ⟨r, hr, L2, B, h3, h4, s2, rfl, by omega, by omega, cx'⟩⟩ (by rw [eL]; simp) hA ?_ (by omega) (by omega)))⟩)⟩
        · have np : a1 n < p := Int64.lt_of_le_of_ne g2 g
          intro x hx
          simp only [List.mem_append, List.mem_cons, List.not_mem_nil, or_false] at hx
          rcases hx with hx | hx | hx
          · exact hA x hx
          · exact Int64.lt_trans (so5 x hx n (by simp)) np
          · rw [hx]; exact np
        · have np : p < a1 n := Int64.not_le.mp g2
          intro x hx
          simp only [List.mem_append, List.mem_cons] at hx
          rcases hx with hx | hx | hx
          · rw [hx]; exact np
          · exact Int64.lt_trans np (so3 x hx)
          · exact hB x hx
end
section
theorem gc_cn_mid {a1 b1 : Nat → Int64} {a2 b2 : Nat → Int32} {X Y : List Nat} {n : Nat} (hX : n ∉ X) (hY : n ∉ Y) (hb : ∀ x, x ≠ n → b1 x = a1 x ∧ b2 x = a2 x) : gc_cn b1 b2 (X ++ n :: Y) = gc_cn a1 a2 X ++ (b1 n, b2 n) :: gc_cn a1 a2 Y := by
  rw [gc_cn_app, gc_cn_cons, gc_cn_congr (L := X) (fun x hx => hb x (fun e => hX (e ▸ hx))), gc_cn_congr (L := Y) (fun x hx => hb x (fun e => hY (e ▸ hx)))]
theorem gc_add93t {post : St1 → Prop} {p : Int64} {rt fn fl ce sb sa en : Int32} {a1 : Nat → Int64} {a2 a3 a4 a5 a6 a7 a8 a9 a10 a11 a12 a13 a14 : Nat → Int32} {L F : List Nat} {d n l r hl hr : Nat} {L1 L2 A B : List Nat} (fr : gc_fr a3 fn F) (nd : (L ++ F).Nodup) (rF : ∀ x, x ∈ F → 1 ≤ x ∧ x ≤ 40) (len : L.length + F.length = 40) (so : gc_so (gc_cn a1 a2 L)) (po : gc_pos (gc_cn a1 a2 L)) (ht : gc_tot (gc_cn a1 a2 L) < 40)
    (n0 : 1 ≤ n) (n1 : n ≤ 40) (h3 : a3 n = nI l) (h4 : a4 n = nI r) (h6 : hl ≤ hr + 1) (h7 : hr ≤ hl + 1) (s1 : gc_sub a1 a2 a3 a4 a5 a6 a7 a8 hl l L1) (s2 : gc_sub a1 a2 a3 a4 a5 a6 a7 a8 hr r L2) (ep : a1 n = p) (cx : gc_cx a1 a2 a3 a4 a5 a6 a7 a8 a9 d n (max hl hr + 1) A B) (e9 : a9 d = nI n) (eL : L = A ++ ((L1 ++ n :: L2) ++ B)) (hd : d ≤ 15)
    (H : ∀ (rt' fn' dp' : Int32) (b1 : Nat → Int64) (b2 b3 b4 b5 b6 b7 b8 b9 : Nat → Int32) (C' : List (Int64 × Int32)), gc_T rt' fn' b1 b2 b3 b4 b5 b6 b7 b8 C' → gc_ch p (gc_cn a1 a2 L) C' → gc_tot C' = gc_tot (gc_cn a1 a2 L) + 1 → post (rt', fn', dp', fl, ce, sb, sa, en, b1, b2, b3, b4, b5, b6, b7, b8, b9, a10, a11, a12, a13, a14)) : wX_add_93 post p (nI n) 1 rt fn (nI (d + 1)) fl ce sb sa en a1 a2 a3 a4 a5 a6 a7 a8 a9 a10 a11 a12 a13 a14 := by
  have cl : (nI n).toNatClampNeg = n := nI_clamp (by omega)
  have vn : vp_in (nI n) 41 := vp_in_nI (by omega) (by omega)
  have dj := nd
  rw [eL] at dj
  simp only [List.nodup_append, List.nodup_cons, List.mem_append, List.mem_cons] at dj
  have nA : n ∉ A := by grind
  have nB : n ∉ B := by grind
  have nL1 : n ∉ L1 := by grind
  have nL2 : n ∉ L2 := by grind
  have LF : ∀ x, x ∈ F → x ∉ L := fun x hx hy => (List.nodup_append.mp nd).2.2 x hy x hx rfl
  have eq : L = (A ++ L1) ++ n :: (L2 ++ B) := by rw [eL]; simp
  have nX : n ∉ A ++ L1 := by simp [nA, nL1]
  have nY : n ∉ L2 ++ B := by simp [nB, nL2]
  have eC : gc_cn a1 a2 L = gc_cn a1 a2 (A ++ L1) ++ (p, a2 n) :: gc_cn a1 a2 (L2 ++ B) := by
    rw [eq, gc_cn_mid nX nY (fun x _ => ⟨rfl, rfl⟩), ep]
  have eC' : gc_cn a1 (upd a2 n (a2 n + 1)) L = gc_cn a1 a2 (A ++ L1) ++ (p, a2 n + 1) :: gc_cn a1 a2 (L2 ++ B) := by
    rw [eq, gc_cn_mid nX nY (fun x hx => ⟨rfl, pk_un hx⟩), ep, pk_us]
  obtain ⟨t, t1, t40, et⟩ := po (p, a2 n) (by rw [eC]; simp)
  replace et : a2 n = nI t := et
  have et' : a2 n + 1 = nI (t + 1) := by rw [et, nI_1]
  have tt : gc_tot (gc_cn a1 a2 L) = gc_tot (gc_cn a1 a2 (A ++ L1)) + (t + gc_tot (gc_cn a1 a2 (L2 ++ B))) := by
    rw [eC, gc_tot_app, gc_tot_cons]
    show _ + ((a2 n).toNatClampNeg + _) = _
    rw [et, nI_clamp (by omega)]
  have tt' : gc_tot (gc_cn a1 (upd a2 n (a2 n + 1)) L) = gc_tot (gc_cn a1 a2 (A ++ L1)) + (t + 1 + gc_tot (gc_cn a1 a2 (L2 ++ B))) := by
    rw [eC', gc_tot_app, gc_tot_cons]
    show _ + ((a2 n + 1).toNatClampNeg + _) = _
    rw [et', nI_clamp (by omega)]
  have ch : gc_ch p (gc_cn a1 a2 L) (gc_cn a1 (upd a2 n (a2 n + 1)) L) := by
    rw [eC'] 
    rw [eC] at so po ⊢
    exact gc_C_set so po (by omega) (by omega) et'
  have c2 : ∀ x, x ≠ n → a1 x = a1 x ∧ upd a2 n (a2 n + 1) x = a2 x ∧ a3 x = a3 x ∧ a4 x = a4 x ∧ a5 x = a5 x ∧ a6 x = a6 x ∧ a7 x = a7 x ∧ a8 x = a8 x := fun x hx => ⟨rfl, pk_un hx, rfl, rfl, rfl, rfl, rfl, rfl⟩
  unfold wX_add_93
  rw [cl]
  refine br_f (by decide) ⟨vn, vn, nm_e ?_⟩
  unfold wX_add_177
  refine gc_mend (L := L) (k := d + 1) (List.nodup_append.mp nd).1 (by omega) (by omega) ⟨n, l, r, hl, hr, max hl hr + 1, L1, L2, A, B, n0, n1, e9, h3, h4, gc_sub_congr (fun x hx => c2 x ?_) s1, gc_sub_congr (fun x hx => c2 x ?_) s2, by omega, by omega, gc_cx_congr (fun x hx => c2 x ?_) (fun _ _ => rfl) cx, eL, fun h' hq => ?_⟩ (fun ρ' h' b3 b4 b5 b6 b7 b8 s' ag => ?_)
  · rcases hx with e | e
    · omega
    · exact fun z => nL1 (z ▸ e)
  · rcases hx with e | e
    · omega
    · exact fun z => nL2 (z ▸ e)
  · rcases hx with e | e | e
    · omega
    · exact fun z => nA (z ▸ e)
    · exact fun z => nB (z ▸ e)
  · unfold gc_hr at hq
    omega
  · exact H _ _ _ _ _ _ _ _ _ _ _ _ _ ⟨L, F, ρ', h', rfl, s', gc_fr_congr (fun x hx => (ag x (LF x hx)).1) fr, nd, rF, len, rfl, ch.1, ch.2.1, by omega⟩ ch (by omega)
theorem gc_add93f {post : St1 → Prop} {p : Int64} {rt fn fl ce sb sa en : Int32} {a1 : Nat → Int64} {a2 a3 a4 a5 a6 a7 a8 a9 a10 a11 a12 a13 a14 : Nat → Int32} {L F : List Nat} {d : Nat} {A B : List Nat} (zf : gc_fa a1 a2 a5 a6 a7 a8 0 0 []) (fr : gc_fr a3 fn F) (nd : (L ++ F).Nodup) (rF : ∀ x, x ∈ F → 1 ≤ x ∧ x ≤ 40) (len : L.length + F.length = 40) (so : gc_so (gc_cn a1 a2 L)) (po : gc_pos (gc_cn a1 a2 L)) (ht : gc_tot (gc_cn a1 a2 L) < 40)
    (cx : gc_cx a1 a2 a3 a4 a5 a6 a7 a8 a9 d 0 0 A B) (eL : L = A ++ B) (hA : ∀ x, x ∈ A → a1 x < p) (hB : ∀ x, x ∈ B → p < a1 x) (hd : d ≤ 15)
    (H : ∀ (rt' fn' dp' : Int32) (b1 : Nat → Int64) (b2 b3 b4 b5 b6 b7 b8 b9 : Nat → Int32) (C' : List (Int64 × Int32)), gc_T rt' fn' b1 b2 b3 b4 b5 b6 b7 b8 C' → gc_ch p (gc_cn a1 a2 L) C' → gc_tot C' = gc_tot (gc_cn a1 a2 L) + 1 → post (rt', fn', dp', fl, ce, sb, sa, en, b1, b2, b3, b4, b5, b6, b7, b8, b9, a10, a11, a12, a13, a14)) : wX_add_93 post p 0 0 rt fn (nI d) fl ce sb sa en a1 a2 a3 a4 a5 a6 a7 a8 a9 a10 a11 a12 a13 a14 := by
  have hlen := gc_len_tot _ po
  rw [gc_cn_len] at hlen
  cases F with
  | nil => exact absurd len (by simp; omega)
  | cons f F =>
    obtain ⟨rfl, fr⟩ := fr
    obtain ⟨f0, f1⟩ := rF f (by simp)
    have dj := nd
    rw [eL] at dj
    simp only [List.nodup_append, List.nodup_cons, List.mem_append, List.mem_cons] at dj
    have fA : f ∉ A := by grind
    have fB : f ∉ B := by grind
    have fF : f ∉ F := by grind
    have nd' : ((A ++ f :: B) ++ F).Nodup := by
      simp only [List.nodup_append, List.nodup_cons, List.mem_append, List.mem_cons]
      grind
    have LF : ∀ x, x ∈ F → x ∉ A ++ f :: B := fun x hx hy => (List.nodup_append.mp nd').2.2 x hy x hx rfl
    have len' : (A ++ f :: B).length + F.length = 40 := by
      rw [eL] at len
      simp only [List.length_append, List.length_cons] at len ⊢
      omega
    have eC : gc_cn a1 a2 L = gc_cn a1 a2 A ++ gc_cn a1 a2 B := by rw [eL, gc_cn_app]
    have eC' : gc_cn (vp_updL a1 f p) (upd a2 f 1) (A ++ f :: B) = gc_cn a1 a2 A ++ (p, 1) :: gc_cn a1 a2 B := by
      rw [gc_cn_mid fA fB (fun x hx => ⟨pk_uLn hx, pk_un hx⟩), pk_us, pk_uLs]
    have ch : gc_ch p (gc_cn a1 a2 L) (gc_cn (vp_updL a1 f p) (upd a2 f 1) (A ++ f :: B)) := by
      rw [eC']
      rw [eC] at so po ⊢
      refine gc_C_ins so po (fun c hc => ?_) (fun c hc => ?_)
      · obtain ⟨x, hx, rfl⟩ := List.mem_map.mp hc
        exact hA x hx
      · obtain ⟨x, hx, rfl⟩ := List.mem_map.mp hc
        exact hB x hx
    have tt : gc_tot (gc_cn (vp_updL a1 f p) (upd a2 f 1) (A ++ f :: B)) = gc_tot (gc_cn a1 a2 L) + 1 := by
      rw [eC', eC, gc_tot_app, gc_tot_app, gc_tot_cons]
      show _ + (1 + _) = _
      omega
    unfold wX_add_93
    refine br_t rfl ?_
    refine gc_newNode f0 f1 zf (fun b5 b6 b7 b8 hb sf => ?_)
    dsimp only
    have fin : ∀ (ρ' h' : Nat) (dp' : Int32) (c3 c4 c5 c6 c7 c8 d3 : Nat → Int32), gc_sub (vp_updL a1 f p) (upd a2 f 1) c3 c4 c5 c6 c7 c8 h' ρ' (A ++ f :: B) → (∀ x, x ∉ A ++ f :: B → d3 x = a3 x) → (∀ x, x ∉ A ++ f :: B → c3 x = d3 x) → post (nI ρ', a3 f, dp', fl, ce, sb, sa, en, vp_updL a1 f p, upd a2 f 1, c3, c4, c5, c6, c7, c8, a9, a10, a11, a12, a13, a14) := by
      intro ρ' h' dp' c3 c4 c5 c6 c7 c8 d3 hs q1 q2
      exact H _ _ _ _ _ _ _ _ _ _ _ _ _ ⟨A ++ f :: B, F, ρ', h', rfl, hs, gc_fr_congr (fun x hx => (q2 x (LF x hx)).trans (q1 x (LF x hx))) fr, nd', fun x hx => rF x (by simp [hx]), len', rfl, ch.1, ch.2.1, by omega⟩ ch tt
    have ndN : (A ++ f :: B).Nodup := (List.nodup_append.mp nd').1
    have lenN : (A ++ f :: B).length ≤ 40 := by omega
    cases d with
    | zero =>
      obtain ⟨rfl, rfl⟩ := cx
      refine br_t rfl ?_
      unfold wX_add_177
      refine gc_mend (L := [f]) (k := 0) ndN lenN (by omega) ⟨f, 1, rfl, sf⟩ (fun ρ' h' c3 c4 c5 c6 c7 c8 s' ag => ?_)
      exact fin ρ' h' _ c3 c4 c5 c6 c7 c8 (upd a3 f 0) s' (fun x hx => pk_un (fun e => hx (by simp [e]))) (fun x hx => (ag x hx).1)
    | succ d =>
      obtain ⟨q, q0, q1, e9, cx⟩ := cx
      have vq : vp_in (nI q) 41 := vp_in_nI (by omega) (by omega)
      have cq : (nI q).toNatClampNeg = q := nI_clamp (by omega)
      have vd : vp_in (nI d) 16 := vp_in_nI (by omega) (by omega)
      rw [nI_pred, nI_clamp (show d < 2 ^ 31 by omega), e9, cq]
      refine br_f (nI_ne0 (by omega) (by omega)) ⟨vd, vd, vq, ?_⟩
      rcases cx with ⟨r, hr, R, B', g3, g4, sR, rfl, w1, w2, cx⟩ | ⟨l, hl, Q, A', g3, g4, sQ, rfl, w1, w2, cx⟩
      · simp only [List.nodup_append, List.nodup_cons, List.mem_append, List.mem_cons] at dj
        have qf : q ≠ f := by grind
        have dR : ∀ x, x ∈ R → x ≠ f ∧ x ≠ q := by grind
        have dA : ∀ x, x ∈ A → x ≠ f ∧ x ≠ q := by grind
        have dB : ∀ x, x ∈ B' → x ≠ f ∧ x ≠ q := by grind
        rw [pk_uLn qf]
        refine br_f (Int64.not_le.mpr (hB q (by simp))) ?_
        unfold wX_add_172 wpX_attach
        dsimp only
        rw [cq]
        refine br_f (by decide) ⟨vq, nm_e ?_⟩
        unfold wX_add_177
        have cc : ∀ x, x ≠ f ∧ x ≠ q → vp_updL a1 f p x = a1 x ∧ upd a2 f 1 x = a2 x ∧ upd (upd a3 f 0) q (nI f) x = a3 x ∧ upd a4 f 0 x = a4 x ∧ b5 x = a5 x ∧ b6 x = a6 x ∧ b7 x = a7 x ∧ b8 x = a8 x := fun x hx => ⟨pk_uLn hx.1, pk_un hx.1, by rw [pk_un hx.2, pk_un hx.1], pk_un hx.1, hb x hx.1⟩
        have eN : A ++ f :: (q :: (R ++ B')) = A ++ (([f] ++ q :: R) ++ B') := by simp
        refine gc_mend (L := A ++ f :: (q :: (R ++ B'))) (k := d + 1) ndN lenN (by omega) ⟨q, f, r, 1, hr, max 0 hr + 1, [f], R, A, B', q0, q1, e9, pk_us, by rw [pk_un qf, g4], gc_sub_congr (fun x hx => ?_) sf, gc_sub_congr (fun x hx => cc x ?_) sR, by omega, by omega, gc_cx_congr (fun x hx => cc x ?_) (fun _ _ => rfl) cx, eN, fun h' hq => ?_⟩ (fun ρ' h' c3 c4 c5 c6 c7 c8 s' ag => ?_)
        · have xq : x ≠ q := by
            rcases hx with e | e
            · omega
            · simp only [List.mem_cons, List.not_mem_nil, or_false] at e
              rw [e]; exact fun z => qf z.symm
          exact ⟨rfl, rfl, pk_un xq, rfl, rfl, rfl, rfl, rfl⟩
        · rcases hx with e | e
          · omega
          · exact dR x e
        · rcases hx with e | e | e
          · omega
          · exact dA x e
          · exact dB x e
        · unfold gc_hr at hq
          omega
        · exact fin ρ' h' _ c3 c4 c5 c6 c7 c8 (upd (upd a3 f 0) q (nI f)) s' (fun x hx => by rw [pk_un (fun e => hx (by simp [e])), pk_un (fun e => hx (by simp [e]))]) (fun x hx => (ag x hx).1)
      · simp only [List.nodup_append, List.nodup_cons, List.mem_append, List.mem_cons, List.not_mem_nil, or_false] at dj
        have qf : q ≠ f := by grind
        have dR : ∀ x, x ∈ Q → x ≠ f ∧ x ≠ q := by grind
        have dA : ∀ x, x ∈ A' → x ≠ f ∧ x ≠ q := by grind
        have dB : ∀ x, x ∈ B → x ≠ f ∧ x ≠ q := by grind
        rw [pk_uLn qf]
        refine br_t (Int64.le_of_lt (hA q (by simp))) ?_
        unfold wX_add_172 wpX_attach
        dsimp only
        rw [cq]
        refine br_t rfl ⟨vq, nm_e ?_⟩
        unfold wX_add_177
        have cc : ∀ x, x ≠ f ∧ x ≠ q → vp_updL a1 f p x = a1 x ∧ upd a2 f 1 x = a2 x ∧ upd a3 f 0 x = a3 x ∧ upd (upd a4 f 0) q (nI f) x = a4 x ∧ b5 x = a5 x ∧ b6 x = a6 x ∧ b7 x = a7 x ∧ b8 x = a8 x := fun x hx => ⟨pk_uLn hx.1, pk_un hx.1, pk_un hx.1, by rw [pk_un hx.2, pk_un hx.1], hb x hx.1⟩
        have eN : A' ++ (Q ++ [q]) ++ f :: B = A' ++ ((Q ++ q :: [f]) ++ B) := by simp
        refine gc_mend (L := A' ++ (Q ++ [q]) ++ f :: B) (k := d + 1) ndN lenN (by omega) ⟨q, l, f, hl, 1, max hl 0 + 1, Q, [f], A', B, q0, q1, e9, by rw [pk_un qf, g3], pk_us, gc_sub_congr (fun x hx => cc x ?_) sQ, gc_sub_congr (fun x hx => ?_) sf, by omega, by omega, gc_cx_congr (fun x hx => cc x ?_) (fun _ _ => rfl) cx, eN, fun h' hq => ?_⟩ (fun ρ' h' c3 c4 c5 c6 c7 c8 s' ag => ?_)
        · rcases hx with e | e
          · omega
          · exact dR x e
        · have xq : x ≠ q := by
            rcases hx with e | e
            · omega
            · simp only [List.mem_cons, List.not_mem_nil, or_false] at e
              rw [e]; exact fun z => qf z.symm
          exact ⟨rfl, rfl, rfl, pk_un xq, rfl, rfl, rfl, rfl⟩
        · rcases hx with e | e | e
          · omega
          · exact dA x e
          · exact dB x e
        · unfold gc_hr at hq
          omega
        · exact fin ρ' h' _ c3 c4 c5 c6 c7 c8 (upd a3 f 0) s' (fun x hx => pk_un (fun e => hx (by simp [e]))) (fun x hx => (ag x hx).1)
theorem gc_add {post : St1 → Prop} {p : Int64} {rt fn dp fl ce sb sa en : Int32} {a1 : Nat → Int64} {a2 a3 a4 a5 a6 a7 a8 a9 a10 a11 a12 a13 a14 : Nat → Int32} {C : List (Int64 × Int32)} (hT : gc_T rt fn a1 a2 a3 a4 a5 a6 a7 a8 C) (ht : gc_tot C < 40)
    (H : ∀ (rt' fn' dp' : Int32) (b1 : Nat → Int64) (b2 b3 b4 b5 b6 b7 b8 b9 : Nat → Int32) (C' : List (Int64 × Int32)), gc_T rt' fn' b1 b2 b3 b4 b5 b6 b7 b8 C' → gc_ch p C C' → gc_tot C' = gc_tot C + 1 → post (rt', fn', dp', fl, ce, sb, sa, en, b1, b2, b3, b4, b5, b6, b7, b8, b9, a10, a11, a12, a13, a14)) : wpX_add post (rt, fn, dp, fl, ce, sb, sa, en, a1, a2, a3, a4, a5, a6, a7, a8, a9, a10, a11, a12, a13, a14) p := by
  obtain ⟨L, F, ρ, h, rfl, s, fr, nd, rF, len, rfl, so, po, t40⟩ := hT
  have hlen := gc_len_tot _ po
  rw [gc_cn_len] at hlen
  have hh := gc_sub_h s (by omega)
  have soL : L.Pairwise (fun x y => a1 x < a1 y) := by
    have so2 := so
    unfold gc_so gc_cn at so2
    rw [List.pairwise_map] at so2
    exact so2
  exact ⟨h + 2, gc_addL soL
    (fun d n l r hl hr L1 L2 A B b9 n0 n1 h3 h4 h6 h7 s1 s2 ep cx e9 eL hd => gc_add93t fr nd rF len so po ht n0 n1 h3 h4 h6 h7 s1 s2 ep cx e9 eL hd H)
    (fun d A B b9 cx eL hA hB hd => gc_add93f (gc_sub_zf s) fr nd rF len so po ht cx eL hA hB hd H)
    h ρ 0 L [] [] a9 (h + 2) s ⟨rfl, rfl⟩ (by simp) (fun x hx => absurd hx (by simp)) (fun x hx => absurd hx (by simp)) (by omega) (by omega)⟩
end
section
theorem gc_takeOut24 {post : St1 → Prop} {rt fn fl ce sb sa en : Int32} {a1 : Nat → Int64} {a2 a3 a4 a5 a6 a7 a8 a9 a10 a11 a12 a13 a14 : Nat → Int32} {F : List Nat} {d x c hc N : Nat} {Mc A B : List Nat} (fr : gc_fr a3 fn F) (nd : (A ++ (x :: (Mc ++ B))).Nodup) (ndF : ∀ y, y ∈ F → y ≠ x ∧ y ∉ A ∧ y ∉ Mc ∧ y ∉ B) (len : (A ++ (Mc ++ B)).length ≤ 40)
    (x0 : 1 ≤ x) (x1 : x ≤ 40) (cx : gc_cx a1 a2 a3 a4 a5 a6 a7 a8 a9 d x N A B) (sc : gc_sub a1 a2 a3 a4 a5 a6 a7 a8 hc c Mc) (hN : N = hc + 1) (hd : d ≤ 15)
    (H : ∀ (ρ h : Nat) (b3 b4 b5 b6 b7 b8 : Nat → Int32), gc_sub a1 a2 b3 b4 b5 b6 b7 b8 h ρ (A ++ (Mc ++ B)) → gc_fr b3 (nI x) (x :: F) → post (nI ρ, nI x, nI d, fl, ce, sb, sa, en, a1, a2, b3, b4, b5, b6, b7, b8, a9, a10, a11, a12, a13, a14)) :
    wX_takeOut_24 (fun u => wpX_mendPath post u) (nI x) (nI c) rt fn (nI (d + 1)) fl ce sb sa en a1 a2 a3 a4 a5 a6 a7 a8 a9 a10 a11 a12 a13 a14 := by
  have cX : (nI x).toNatClampNeg = x := nI_clamp (by omega)
  have vx : vp_in (nI x) 41 := vp_in_nI (by omega) (by omega)
  have dj := nd
  simp only [List.nodup_append, List.nodup_cons, List.mem_append, List.mem_cons] at dj
  have xA : x ∉ A := by grind
  have xB : x ∉ B := by grind
  have xM : x ∉ Mc := by grind
  have ndN : (A ++ (Mc ++ B)).Nodup := by
    simp only [List.nodup_append, List.mem_append]
    grind
  have xN : x ∉ A ++ (Mc ++ B) := by simp [xA, xB, xM]
  have FN : ∀ y, y ∈ F → y ≠ x ∧ y ∉ A ++ (Mc ++ B) := fun y hy => by
    obtain ⟨q1, q2, q3, q4⟩ := ndF y hy
    exact ⟨q1, by simp [q2, q3, q4]⟩
  have fin : ∀ (ρ' h' : Nat) (c3 c4 c5 c6 c7 c8 d3 : Nat → Int32), gc_sub a1 a2 c3 c4 c5 c6 c7 c8 h' ρ' (A ++ (Mc ++ B)) → d3 x = fn → (∀ y, y ≠ x → y ∉ A ++ (Mc ++ B) → d3 y = a3 y) → (∀ y, y ∉ A ++ (Mc ++ B) → c3 y = d3 y) → post (nI ρ', nI x, nI d, fl, ce, sb, sa, en, a1, a2, c3, c4, c5, c6, c7, c8, a9, a10, a11, a12, a13, a14) := by
    intro ρ' h' c3 c4 c5 c6 c7 c8 d3 hs q1 q2 q3
    refine H ρ' h' c3 c4 c5 c6 c7 c8 hs ⟨rfl, ?_⟩
    rw [q3 x xN, q1]
    exact gc_fr_congr (fun y hy => (q3 y (FN y hy).2).trans (q2 y (FN y hy).1 (FN y hy).2)) fr
  unfold wX_takeOut_24
  refine nm_r (nI_pred d) ?_
  cases d with
  | zero =>
    obtain ⟨rfl, rfl⟩ := cx
    refine br_t rfl ?_
    unfold wX_takeOut_83
    rw [cX]
    refine ⟨vx, nm_e ?_⟩
    have s2 : gc_sub a1 a2 (upd a3 x fn) a4 a5 a6 a7 a8 hc c Mc := gc_sub_congr (fun y hy => ⟨rfl, rfl, pk_un (by
      rcases hy with e | e
      · omega
      · exact fun z => xM (z ▸ e)), rfl, rfl, rfl, rfl, rfl⟩) sc
    have e : [] ++ (Mc ++ []) = Mc := by simp
    refine gc_mend (L := [] ++ (Mc ++ [])) (k := 0) ndN len (by omega) ⟨c, hc, rfl, by rw [e]; exact s2⟩ (fun ρ' h' c3 c4 c5 c6 c7 c8 s' ag => ?_)
    exact fin ρ' h' c3 c4 c5 c6 c7 c8 (upd a3 x fn) s' pk_us (fun y hy _ => pk_un hy) (fun y hy => (ag y hy).1)
  | succ d =>
    obtain ⟨q, q0, q1, e9, cx⟩ := cx
    have vq : vp_in (nI q) 41 := vp_in_nI (by omega) (by omega)
    have cq : (nI q).toNatClampNeg = q := nI_clamp (by omega)
    have vd : vp_in (nI d) 16 := vp_in_nI (by omega) (by omega)
    refine br_f (nI_ne0 (by omega) (by omega)) ?_
    rw [nI_pred, nI_clamp (show d < 2 ^ 31 by omega), e9]
    refine ⟨vd, nm_e ⟨vq, ?_⟩⟩
    rw [cq]
    rcases cx with ⟨r, hr, R, B', g3, g4, sR, rfl, w1, w2, cx⟩ | ⟨l, hl, Q, A', g3, g4, sQ, rfl, w1, w2, cx⟩
    · simp only [List.nodup_append, List.nodup_cons, List.mem_append, List.mem_cons] at dj
      have qx : q ≠ x := by grind
      have dM : ∀ y, y ∈ Mc → y ≠ x ∧ y ≠ q := by grind
      have dR : ∀ y, y ∈ R → y ≠ x ∧ y ≠ q := by grind
      have dA : ∀ y, y ∈ A → y ≠ x ∧ y ≠ q := by grind
      have dB : ∀ y, y ∈ B' → y ≠ x ∧ y ≠ q := by grind
      rw [g3]
      refine br_t rfl ?_
      unfold wX_takeOut_79 wpX_attach
      dsimp only
      rw [cq]
      refine br_f (by decide) ⟨vq, nm_e ?_⟩
      unfold wX_takeOut_83
      rw [cX]
      refine ⟨vx, nm_e ?_⟩
      have cc : ∀ y, y ≠ x ∧ y ≠ q → a1 y = a1 y ∧ a2 y = a2 y ∧ upd (upd a3 q (nI c)) x fn y = a3 y ∧ a4 y = a4 y ∧ a5 y = a5 y ∧ a6 y = a6 y ∧ a7 y = a7 y ∧ a8 y = a8 y := fun y hy => ⟨rfl, rfl, by rw [pk_un hy.1, pk_un hy.2], rfl, rfl, rfl, rfl, rfl⟩
      have eN : A ++ (Mc ++ (q :: (R ++ B'))) = A ++ ((Mc ++ q :: R) ++ B') := by simp
      refine gc_mend (L := A ++ (Mc ++ (q :: (R ++ B')))) (k := d + 1) ndN len (by omega) ⟨q, c, r, hc, hr, max N hr + 1, Mc, R, A, B', q0, q1, e9, by rw [pk_un qx, pk_us], g4, gc_sub_congr (fun y hy => cc y ?_) sc, gc_sub_congr (fun y hy => cc y ?_) sR, by omega, by omega, gc_cx_congr (fun y hy => cc y ?_) (fun _ _ => rfl) cx, eN, fun h' hq => ?_⟩ (fun ρ' h' c3 c4 c5 c6 c7 c8 s' ag => ?_)
      · rcases hy with e | e
        · omega
        · exact dM y e
      · rcases hy with e | e
        · omega
        · exact dR y e
      · rcases hy with e | e | e
        · omega
        · exact dA y e
        · exact dB y e
      · unfold gc_hr at hq
        omega
      · exact fin ρ' h' c3 c4 c5 c6 c7 c8 (upd (upd a3 q (nI c)) x fn) s' pk_us (fun y hy hn => by rw [pk_un hy, pk_un (fun e => hn (by simp [e]))]) (fun y hy => (ag y hy).1)
    · simp only [List.nodup_append, List.nodup_cons, List.mem_append, List.mem_cons, List.not_mem_nil, or_false] at dj
      have qx : q ≠ x := by grind
      have dM : ∀ y, y ∈ Mc → y ≠ x ∧ y ≠ q := by grind
      have dR : ∀ y, y ∈ Q → y ≠ x ∧ y ≠ q := by grind
      have dA : ∀ y, y ∈ A' → y ≠ x ∧ y ≠ q := by grind
      have dB : ∀ y, y ∈ B → y ≠ x ∧ y ≠ q := by grind
      have l40 := (gc_sub_fa sQ).1
      have lx : l ≠ x := gc_ne sQ (by omega) (fun z => (dR x z).1 rfl)
      rw [g3]
      refine br_f (fun z => lx ((nI_eq (by omega) (by omega)).mp z)) ?_
      unfold wX_takeOut_79 wpX_attach
      dsimp only
      rw [cq]
      refine br_t rfl ⟨vq, nm_e ?_⟩
      unfold wX_takeOut_83
      rw [cX]
      refine ⟨vx, nm_e ?_⟩
      have cc : ∀ y, y ≠ x ∧ y ≠ q → a1 y = a1 y ∧ a2 y = a2 y ∧ upd a3 x fn y = a3 y ∧ upd a4 q (nI c) y = a4 y ∧ a5 y = a5 y ∧ a6 y = a6 y ∧ a7 y = a7 y ∧ a8 y = a8 y := fun y hy => ⟨rfl, rfl, pk_un hy.1, pk_un hy.2, rfl, rfl, rfl, rfl⟩
      have eN : A' ++ (Q ++ [q]) ++ (Mc ++ B) = A' ++ ((Q ++ q :: Mc) ++ B) := by simp
      refine gc_mend (L := A' ++ (Q ++ [q]) ++ (Mc ++ B)) (k := d + 1) ndN len (by omega) ⟨q, l, c, hl, hc, max hl N + 1, Q, Mc, A', B, q0, q1, e9, by rw [pk_un qx, g3], pk_us, gc_sub_congr (fun y hy => cc y ?_) sQ, gc_sub_congr (fun y hy => cc y ?_) sc, by omega, by omega, gc_cx_congr (fun y hy => cc y ?_) (fun _ _ => rfl) cx, eN, fun h' hq => ?_⟩ (fun ρ' h' c3 c4 c5 c6 c7 c8 s' ag => ?_)
      · rcases hy with e | e
        · omega
        · exact dR y e
      · rcases hy with e | e
        · omega
        · exact dM y e
      · rcases hy with e | e | e
        · omega
        · exact dA y e
        · exact dB y e
      · unfold gc_hr at hq
        omega
      · exact fin ρ' h' c3 c4 c5 c6 c7 c8 (upd a3 x fn) s' pk_us (fun y hy hn => pk_un hy) (fun y hy => (ag y hy).1)
theorem gc_drop162 {post : St1 → Prop} {rt fn fl ce sb sa en : Int32} {a1 : Nat → Int64} {a2 a3 a4 a5 a6 a7 a8 a9 a10 a11 a12 a13 a14 : Nat → Int32} {F : List Nat} {d x l r hl hr : Nat} {L1 L2 A B : List Nat} (fr : gc_fr a3 fn F) (nd : (A ++ ((L1 ++ x :: L2) ++ B)).Nodup) (ndF : ∀ y, y ∈ F → y ∉ A ++ ((L1 ++ x :: L2) ++ B)) (len : (A ++ ((L1 ++ x :: L2) ++ B)).length ≤ 40)
    (x0 : 1 ≤ x) (x1 : x ≤ 40) (h3 : a3 x = nI l) (h4 : a4 x = nI r) (h6 : hl ≤ hr + 1) (h7 : hr ≤ hl + 1) (cx : gc_cx a1 a2 a3 a4 a5 a6 a7 a8 a9 d x (max hl hr + 1) A B) (s1 : gc_sub a1 a2 a3 a4 a5 a6 a7 a8 hl l L1) (s2 : gc_sub a1 a2 a3 a4 a5 a6 a7 a8 hr r L2) (hz : l = 0 ∨ r = 0) (hd : d ≤ 15)
    (H : ∀ (ρ h : Nat) (b3 b4 b5 b6 b7 b8 : Nat → Int32), gc_sub a1 a2 b3 b4 b5 b6 b7 b8 h ρ (A ++ ((L1 ++ L2) ++ B)) → gc_fr b3 (nI x) (x :: F) → post (nI ρ, nI x, nI d, fl, ce, sb, sa, en, a1, a2, b3, b4, b5, b6, b7, b8, a9, a10, a11, a12, a13, a14)) :
    wX_drop_162 post (nI x) rt fn (nI (d + 1)) fl ce sb sa en a1 a2 a3 a4 a5 a6 a7 a8 a9 a10 a11 a12 a13 a14 := by
  have cX : (nI x).toNatClampNeg = x := nI_clamp (by omega)
  have vx : vp_in (nI x) 41 := vp_in_nI (by omega) (by omega)
  have l40 := (gc_sub_fa s1).1
  unfold wX_drop_162 wpX_takeOut
  dsimp only
  rw [cX, h3, h4]
  refine ⟨vx, pk_eq l 0 (fun z => ⟨vx, ?_⟩) (fun z => ⟨vx, ?_⟩)⟩
  · subst z
    obtain ⟨rfl, rfl⟩ := gc_sub_z s1
    refine gc_takeOut24 (Mc := L2) (hc := hr) (N := max 0 hr + 1) fr (by simpa using nd) (fun y hy => ?_) ?_ x0 x1 cx s2 (by omega) hd H
    · have := ndF y hy
      simp only [List.nil_append, List.cons_append, List.mem_append, List.mem_cons, not_or] at this
      exact ⟨this.2.1, this.1, this.2.2.1, this.2.2.2⟩
    · simp only [List.nil_append, List.cons_append, List.length_append, List.length_cons] at len ⊢
      omega
  · have rz : r = 0 := by omega
    subst rz
    obtain ⟨rfl, rfl⟩ := gc_sub_z s2
    have eL : L1 ++ [] = L1 := by simp
    rw [eL] at H
    simp only [List.append_assoc, List.cons_append, List.nil_append] at nd ndF len
    refine gc_takeOut24 (Mc := L1) (hc := hl) (N := max hl 0 + 1) fr ?_ (fun y hy => ?_) ?_ x0 x1 cx s1 (by omega) hd H
    · simp only [List.nodup_append, List.nodup_cons, List.mem_append, List.mem_cons] at nd ⊢
      grind
    · have := ndF y hy
      simp only [List.mem_append, List.mem_cons, not_or] at this
      exact ⟨this.2.2.1, this.1, this.2.1, this.2.2.2⟩
    · simp only [List.length_append, List.length_cons] at len ⊢
      omega
theorem gc_goL {post : Int32 → St1 → Prop} {rt fn fl ce sb sa en : Int32} {a1 g1 : Nat → Int64} {a2 g2 a3 a4 a5 a6 a7 a8 a10 a11 a12 a13 a14 : Nat → Int32} {N A : List Nat}
    (K : ∀ (d x r hr : Nat) (L2 B : List Nat) (a9 : Nat → Int32), 1 ≤ x → x ≤ 40 → a3 x = nI 0 → a4 x = nI r → gc_sub g1 g2 a3 a4 a5 a6 a7 a8 hr r L2 → gc_sub g1 g2 a3 a4 a5 a6 a7 a8 0 0 [] → hr ≤ 1 → gc_cx g1 g2 a3 a4 a5 a6 a7 a8 a9 d x (max 0 hr + 1) A B → a9 d = nI x → N = A ++ (([] ++ x :: L2) ++ B) → d ≤ 15 → post (nI x) (rt, fn, nI (d + 1), fl, ce, sb, sa, en, a1, a2, a3, a4, a5, a6, a7, a8, a9, a10, a11, a12, a13, a14)) :
    ∀ (h m d s : Nat) (M B : List Nat) (a9 : Nat → Int32) (fu : Nat), m ≠ 0 → gc_sub g1 g2 a3 a4 a5 a6 a7 a8 h m M → gc_cx g1 g2 a3 a4 a5 a6 a7 a8 a9 d m h A B → a9 d = nI m → N = A ++ (M ++ B) → d + h ≤ 15 → s + h ≤ 16 → h < fu → wX_goToNext_14 post fu (nI m) (nI s) rt fn (nI (d + 1)) fl ce sb sa en a1 a2 a3 a4 a5 a6 a7 a8 a9 a10 a11 a12 a13 a14 := by
  intro h
  induction h using Nat.strongRecOn with
  | ind h ih =>
    intro m d s M B a9 fu hm hs cx e9 eN hd hh hf
    obtain ⟨fu, rfl⟩ : ∃ k, fu = k + 1 := ⟨fu - 1, by omega⟩
    obtain ⟨l, r, hl, hr, L1, L2, rfl, h1, h2, h3, h4, rfl, h6, h7, f, s1, s2⟩ := gc_sub_nz hs hm
    have cm : (nI m).toNatClampNeg = m := nI_clamp (by omega)
    have vm : vp_in (nI m) 41 := vp_in_nI (by omega) (by omega)
    have l40 := (gc_sub_fa s1).1
    refine pk_le 16 s (fun z => absurd z (by omega)) (fun _ => ⟨vm, ?_⟩)
    rw [cm, h3]
    refine pk_eq l 0 (fun z => ?_) (fun z => ⟨vm, nm_e ?_⟩)
    · subst z
      obtain ⟨rfl, rfl⟩ := gc_sub_z s1
      exact K d m r hr L2 B a9 h1 h2 h3 h4 s2 s1 (by omega) cx e9 eN (by omega)
    · unfold wpX_step
      refine ⟨vp_in_nI (by omega) (by omega), nm_e (nm_r (nI_1 (d + 1)) ?_)⟩
      rw [nI_clamp (show d + 1 < 2 ^ 31 by omega)]
      dsimp only
      have k9 : upd a9 (d + 1) (nI l) (d + 1) = nI l := pk_us
      have k9' : upd a9 (d + 1) (nI l) d = nI m := by rw [pk_un (by omega), e9]
      have cx' := gc_cx_congr (b9 := upd a9 (d + 1) (nI l)) (fun x _ => ⟨rfl, rfl, rfl, rfl, rfl, rfl, rfl, rfl⟩) (fun j hj => pk_un (by omega)) cx
      exact nm_r (nI_1 s) (ih hl (by omega) l (d + 1) (s + 1) L1 (m :: (L2 ++ B)) (upd a9 (d + 1) (nI l)) fu z s1 ⟨m, h1, h2, k9', Or.inl ⟨r, hr, L2, B, h3, h4, s2, rfl, by omega, by omega, cx'⟩⟩ k9 (by rw [eN]; simp) (by omega) (by omega) (by omega))
end
section
theorem gc_dropL {post : St1 → Prop} {p : Int64} {rt fn fl ce sb sa en : Int32} {a1 : Nat → Int64} {a2 a3 a4 a5 a6 a7 a8 a10 a11 a12 a13 a14 : Nat → Int32} {L : List Nat} (so : L.Pairwise (fun x y => a1 x < a1 y))
    (F1 : ∀ (d n l r hl hr : Nat) (L1 L2 A B : List Nat) (a9 : Nat → Int32), 1 ≤ n → n ≤ 40 → a3 n = nI l → a4 n = nI r → hl ≤ hr + 1 → hr ≤ hl + 1 → gc_sub a1 a2 a3 a4 a5 a6 a7 a8 hl l L1 → gc_sub a1 a2 a3 a4 a5 a6 a7 a8 hr r L2 → a1 n = p → gc_cx a1 a2 a3 a4 a5 a6 a7 a8 a9 d n (max hl hr + 1) A B → L = A ++ ((L1 ++ n :: L2) ++ B) → d + (max hl hr + 1) ≤ 15 → wX_drop_73 post (nI n) rt fn (nI d) fl ce sb sa en a1 a2 a3 a4 a5 a6 a7 a8 a9 a10 a11 a12 a13 a14)
    (F2 : ∀ (d : Nat) (A B : List Nat) (a9 : Nat → Int32), L = A ++ B → (∀ x, x ∈ A → a1 x < p) → (∀ x, x ∈ B → p < a1 x) → post (rt, fn, nI d, fl, ce, sb, sa, en, a1, a2, a3, a4, a5, a6, a7, a8, a9, a10, a11, a12, a13, a14)) :
    ∀ (h n d : Nat) (M A B : List Nat) (a9 : Nat → Int32) (fu : Nat), gc_sub a1 a2 a3 a4 a5 a6 a7 a8 h n M → gc_cx a1 a2 a3 a4 a5 a6 a7 a8 a9 d n h A B → L = A ++ (M ++ B) → (∀ x, x ∈ A → a1 x < p) → (∀ x, x ∈ B → p < a1 x) → d + h ≤ 15 → h < fu → wX_drop_13 post p fu (nI n) (nI d) rt fn (nI d) fl ce sb sa en a1 a2 a3 a4 a5 a6 a7 a8 a9 a10 a11 a12 a13 a14 := by
  intro h
  induction h using Nat.strongRecOn with
  | ind h ih =>
    intro n d M A B a9 fu hs cx eL hA hB hd hf
    obtain ⟨fu, rfl⟩ : ∃ k, fu = k + 1 := ⟨fu - 1, by omega⟩
    by_cases hn : n = 0
    · subst hn
      obtain ⟨rfl, rfl⟩ := gc_sub_z hs
      have q : wX_drop_73 post (nI 0) rt fn (nI d) fl ce sb sa en a1 a2 a3 a4 a5 a6 a7 a8 a9 a10 a11 a12 a13 a14 := br_t (c := nI 0 = 0) nI_0 (F2 d A B a9 (by rw [eL]; simp) hA hB)
      exact pk_le 16 d (fun z => absurd z (by omega)) (fun _ => br_t (c := nI 0 = 0) nI_0 q)
    · obtain ⟨l, r, hl, hr, L1, L2, rfl, h1, h2, h3, h4, rfl, h6, h7, f, s1, s2⟩ := gc_sub_nz hs hn
      have cl : (nI n).toNatClampNeg = n := nI_clamp (by omega)
      have cd : (nI d).toNatClampNeg = d := nI_clamp (by omega)
      have vn : vp_in (nI n) 41 := vp_in_nI (by omega) (by omega)
      refine pk_le 16 d (fun z => absurd z (by omega)) (fun _ => br_f (nI_ne0 (by omega) (by omega)) ⟨vn, ?_⟩)
      rw [cl]
      refine br_c (fun g => F1 d n l r hl hr L1 L2 A B a9 h1 h2 h3 h4 h6 h7 s1 s2 g cx eL (by omega)) (fun g => ?_)
      unfold wpX_step
      refine ⟨vp_in_nI (by omega) (by omega), nm_e (nm_r (nI_1 d) ?_)⟩
      dsimp only
      rw [cd, h3, h4]
      have e9 : upd a9 d (nI n) d = nI n := pk_us
      have cx' := gc_cx_congr (b9 := upd a9 d (nI n)) (fun x _ => ⟨rfl, rfl, rfl, rfl, rfl, rfl, rfl, rfl⟩) (fun j hj => pk_un (by omega)) cx
      have so2 : (L1 ++ n :: L2).Pairwise (fun x y => a1 x < a1 y) := by
        rw [eL] at so
        exact (List.pairwise_append.mp (List.pairwise_append.mp so).2.1).1
      rw [List.pairwise_append, List.pairwise_cons] at so2
      obtain ⟨so1, ⟨so3, so4⟩, so5⟩ := so2
      refine ⟨vn, br_c (fun g2 => ⟨vn, nm_e (nm_r (nI_1 d) (ih hr (by omega) r (d + 1) L2 (A ++ (L1 ++ [n])) B (upd a9 d (nI n)) fu s2 ⟨n, h1, h2, e9, Or.inr ⟨l, hl, L1, A, h3, h4, s1, rfl, by omega, by omega, cx'⟩⟩ (by rw [eL]; simp) ?_ hB (by omega) (by omega)))⟩) (fun g2 => ⟨vn, nm_e (nm_r (nI_1 d) (ih hl (by omega) l (d + 1) L1 A (n :: (L2 ++ B)) (upd a9 d (nI n)) fu s1 ⟨n, h1, h2, e9, Or.inl ⟨r, hr, L2, B, h3, h4, s2, rfl, by omega, by omega, cx'⟩⟩ (by rw [eL]; simp) hA ?_ (by omega) (by omega)))⟩)⟩
      · have np : a1 n < p := Int64.lt_of_le_of_ne g2 g
        intro x hx
        simp only [List.mem_append, List.mem_cons, List.not_mem_nil, or_false] at hx
        rcases hx with hx | hx | hx
        · exact hA x hx
        · exact Int64.lt_trans (so5 x hx n (by simp)) np
        · rw [hx]; exact np
      · have np : p < a1 n := Int64.not_le.mp g2
        intro x hx
        simp only [List.mem_append, List.mem_cons] at hx
        rcases hx with hx | hx | hx
        · rw [hx]; exact np
        · exact Int64.lt_trans np (so3 x hx)
        · exact hB x hx
theorem gc_nd_mv {X Y W V : List Nat} {n : Nat} (e : X ++ Y = W ++ V) (h : (X ++ n :: Y).Nodup) : (W ++ n :: V).Nodup := by
  rw [List.perm_middle.nodup_iff] at h ⊢
  rw [← e]
  exact h
theorem gc_drop73 {post : St1 → Prop} {p : Int64} {rt fn fl ce sb sa en : Int32} {a1 : Nat → Int64} {a2 a3 a4 a5 a6 a7 a8 a9 a10 a11 a12 a13 a14 : Nat → Int32} {L F : List Nat} {d n l r hl hr : Nat} {L1 L2 A B : List Nat} (fr : gc_fr a3 fn F) (nd : (L ++ F).Nodup) (rF : ∀ x, x ∈ F → 1 ≤ x ∧ x ≤ 40) (len : L.length + F.length = 40) (so : gc_so (gc_cn a1 a2 L)) (po : gc_pos (gc_cn a1 a2 L)) (ht : gc_tot (gc_cn a1 a2 L) ≤ 40)
    (n0 : 1 ≤ n) (n1 : n ≤ 40) (h3 : a3 n = nI l) (h4 : a4 n = nI r) (h6 : hl ≤ hr + 1) (h7 : hr ≤ hl + 1) (s1 : gc_sub a1 a2 a3 a4 a5 a6 a7 a8 hl l L1) (s2 : gc_sub a1 a2 a3 a4 a5 a6 a7 a8 hr r L2) (ep : a1 n = p) (cx : gc_cx a1 a2 a3 a4 a5 a6 a7 a8 a9 d n (max hl hr + 1) A B) (eL : L = A ++ ((L1 ++ n :: L2) ++ B)) (hd : d + (max hl hr + 1) ≤ 15)
    (H : ∀ (rt' fn' dp' : Int32) (b1 : Nat → Int64) (b2 b3 b4 b5 b6 b7 b8 b9 : Nat → Int32) (C' : List (Int64 × Int32)), gc_T rt' fn' b1 b2 b3 b4 b5 b6 b7 b8 C' → gc_ch p (gc_cn a1 a2 L) C' → gc_tot C' + 1 = gc_tot (gc_cn a1 a2 L) → post (rt', fn', dp', fl, ce, sb, sa, en, b1, b2, b3, b4, b5, b6, b7, b8, b9, a10, a11, a12, a13, a14)) : wX_drop_73 post (nI n) rt fn (nI d) fl ce sb sa en a1 a2 a3 a4 a5 a6 a7 a8 a9 a10 a11 a12 a13 a14 := by
  have cl : (nI n).toNatClampNeg = n := nI_clamp (by omega)
  have cd : (nI d).toNatClampNeg = d := nI_clamp (by omega)
  have vn : vp_in (nI n) 41 := vp_in_nI (by omega) (by omega)
  have l40 := (gc_sub_fa s1).1
  have r40 := (gc_sub_fa s2).1
  have dj := nd
  rw [eL] at dj
  simp only [List.nodup_append, List.nodup_cons, List.mem_append, List.mem_cons] at dj
  have nA : n ∉ A := by grind
  have nB : n ∉ B := by grind
  have nL1 : n ∉ L1 := by grind
  have nL2 : n ∉ L2 := by grind
  have nF : n ∉ F := by grind
  have ndL : L.Nodup := (List.nodup_append.mp nd).1
  have lenL : L.length ≤ 40 := by omega
  have LF : ∀ x, x ∈ F → x ∉ L := fun x hx hy => (List.nodup_append.mp nd).2.2 x hy x hx rfl
  have eq : L = (A ++ L1) ++ n :: (L2 ++ B) := by rw [eL]; simp
  have nX : n ∉ A ++ L1 := by simp [nA, nL1]
  have nY : n ∉ L2 ++ B := by simp [nB, nL2]
  have eC : gc_cn a1 a2 L = gc_cn a1 a2 (A ++ L1) ++ (p, a2 n) :: gc_cn a1 a2 (L2 ++ B) := by
    rw [eq, gc_cn_mid nX nY (fun x _ => ⟨rfl, rfl⟩), ep]
  obtain ⟨t, t1, t40, et⟩ := po (p, a2 n) (by rw [eC]; simp)
  replace et : a2 n = nI t := et
  have tt : gc_tot (gc_cn a1 a2 L) = gc_tot (gc_cn a1 a2 (A ++ L1)) + (t + gc_tot (gc_cn a1 a2 (L2 ++ B))) := by
    rw [eC, gc_tot_app, gc_tot_cons]
    show _ + ((a2 n).toNatClampNeg + _) = _
    rw [et, nI_clamp (by omega)]
  unfold wX_drop_73
  refine br_f (nI_ne0 (by omega) (by omega)) ?_
  unfold wpX_step
  refine ⟨vp_in_nI (by omega) (by omega), nm_e (nm_r (nI_1 d) ?_)⟩
  dsimp only
  rw [cl, cd]
  have e9 : upd a9 d (nI n) d = nI n := pk_us
  have cx' := gc_cx_congr (b9 := upd a9 d (nI n)) (fun x _ => ⟨rfl, rfl, rfl, rfl, rfl, rfl, rfl, rfl⟩) (fun j hj => pk_un (by omega)) cx
  generalize upd a9 d (nI n) = k9 at e9 cx'
  refine ⟨vn, pk_le t 1 (fun tz => ⟨vn, ?_⟩) (fun tz => ⟨vn, vn, ?_⟩) (hx := et)⟩
  · have t1' : t = 1 := by omega
    have ch : gc_ch p (gc_cn a1 a2 L) (gc_cn a1 a2 (A ++ L1) ++ gc_cn a1 a2 (L2 ++ B)) := by
      rw [eC] at so po ⊢
      exact gc_C_del so po
    have ttd : gc_tot (gc_cn a1 a2 (A ++ L1) ++ gc_cn a1 a2 (L2 ++ B)) + 1 = gc_tot (gc_cn a1 a2 L) := by
      rw [tt, gc_tot_app]
      omega
    have one : (l = 0 ∨ r = 0) → wX_drop_162 post (nI n) rt fn (nI (d + 1)) fl ce sb sa en a1 a2 a3 a4 a5 a6 a7 a8 k9 a10 a11 a12 a13 a14 := by
      intro hz
      refine gc_drop162 (F := F) (L1 := L1) (L2 := L2) (A := A) (B := B) fr (by rw [← eL]; exact ndL) (by rw [← eL]; exact LF) (by rw [← eL]; exact lenL) n0 n1 h3 h4 h6 h7 cx' s1 s2 hz (by omega) (fun ρ h b3 b4 b5 b6 b7 b8 hs hf => ?_)
      have eN : gc_cn a1 a2 (A ++ ((L1 ++ L2) ++ B)) = gc_cn a1 a2 (A ++ L1) ++ gc_cn a1 a2 (L2 ++ B) := by
        rw [← gc_cn_app]
        simp
      refine H _ _ _ _ _ _ _ _ _ _ _ _ _ ⟨A ++ ((L1 ++ L2) ++ B), n :: F, ρ, h, rfl, hs, hf, ?_, ?_, ?_, eN.symm, ch.1, ch.2.1, by omega⟩ ch ttd
      · have nd3 := nd
        rw [show L ++ F = (A ++ L1) ++ n :: (L2 ++ B ++ F) by rw [eL]; simp] at nd3
        exact gc_nd_mv (by simp) nd3
      · intro x hx
        rcases List.mem_cons.mp hx with e | e
        · rw [e]; exact ⟨n0, n1⟩
        · exact rF x e
      · rw [eL] at len
        simp only [List.length_append, List.length_cons] at len ⊢
        omega
    rw [h3, h4]
    refine pk_eq l 0 (fun z => one (Or.inl z)) (fun lz => ⟨vn, pk_eq r 0 (fun z => one (Or.inr z)) (fun rz => ?_)⟩)
    cases L2 with
    | nil =>
      exfalso
      rcases gc_sub_mem s2 with e | e
      · exact rz e
      · exact absurd e (by simp)
    | cons o L2 =>
      have o40 := (gc_sub_rng s2 o (by simp))
      have on : o ≠ n := fun e => nL2 (by simp [e])
      have cg : ∀ x, x ≠ n → vp_updL a1 n (a1 o) x = a1 x ∧ upd a2 n (a2 o) x = a2 x ∧ a3 x = a3 x ∧ a4 x = a4 x ∧ a5 x = a5 x ∧ a6 x = a6 x ∧ a7 x = a7 x ∧ a8 x = a8 x := fun x hx => ⟨pk_uLn hx, pk_un hx, rfl, rfl, rfl, rfl, rfl, rfl⟩
      have s1g : gc_sub (vp_updL a1 n (a1 o)) (upd a2 n (a2 o)) a3 a4 a5 a6 a7 a8 hl l L1 := gc_sub_congr (fun x hx => cg x (by
        rcases hx with e | e
        · omega
        · exact fun z => nL1 (z ▸ e))) s1
      have s2g : gc_sub (vp_updL a1 n (a1 o)) (upd a2 n (a2 o)) a3 a4 a5 a6 a7 a8 hr r (o :: L2) := gc_sub_congr (fun x hx => cg x (by
        rcases hx with e | e
        · omega
        · exact fun z => nL2 (z ▸ e))) s2
      have cxg : gc_cx (vp_updL a1 n (a1 o)) (upd a2 n (a2 o)) a3 a4 a5 a6 a7 a8 (upd k9 (d + 1) (nI r)) d n (max hl hr + 1) A B := gc_cx_congr (fun x hx => cg x (by
        rcases hx with e | e | e
        · omega
        · exact fun z => nA (z ▸ e)
        · exact fun z => nB (z ▸ e))) (fun j hj => pk_un (by omega)) cx'
      have k9n : upd k9 (d + 1) (nI r) d = nI n := by rw [pk_un (by omega), e9]
      unfold wpX_goToNext
      dsimp only
      rw [cl, h4]
      refine ⟨vn, nm_e ?_⟩
      unfold wpX_step
      refine ⟨vp_in_nI (by omega) (by omega), nm_e (nm_r (nI_1 (d + 1)) ?_)⟩
      rw [nI_clamp (show d + 1 < 2 ^ 31 by omega)]
      dsimp only
      refine ⟨hr + 1, gc_goL (g1 := vp_updL a1 n (a1 o)) (g2 := upd a2 n (a2 o)) (N := L) (A := A ++ (L1 ++ [n])) ?_ hr r (d + 1) 0 (o :: L2) B (upd k9 (d + 1) (nI r)) (hr + 1) rz s2g ⟨n, n0, n1, k9n, Or.inr ⟨l, hl, L1, A, h3, h4, s1g, rfl, by omega, by omega, cxg⟩⟩ pk_us (by rw [eL]; simp) (by omega) (by omega) (by omega)⟩
      intro d2 x r2 hr2 M2 B2 b9 x0 x1 x3 x4 sr2 s0 hr21 cx2 e92 eN hd2
      have eo : x :: (M2 ++ B2) = o :: (L2 ++ B) := by
        have e1 : (A ++ (L1 ++ [n])) ++ (x :: (M2 ++ B2)) = (A ++ (L1 ++ [n])) ++ (o :: (L2 ++ B)) := by
          have e2 := eN.symm.trans eL
          simpa using e2
        exact List.append_cancel_left e1
      have ex : x = o := (List.cons.inj eo).1
      have eY : M2 ++ B2 = L2 ++ B := (List.cons.inj eo).2
      subst ex
      have cX : (nI x).toNatClampNeg = x := nI_clamp (by omega)
      have vx : vp_in (nI x) 41 := vp_in_nI (by omega) (by omega)
      dsimp only
      rw [cX]
      refine ⟨vx, vn, nm_e ⟨vx, vn, nm_e ?_⟩⟩
      refine gc_drop162 (F := F) (L1 := []) (L2 := M2) (A := A ++ (L1 ++ [n])) (B := B2) (hl := 0) (hr := hr2) fr (by rw [← eN]; exact ndL) (by rw [← eN]; exact LF) (by rw [← eN]; exact lenL) x0 x1 x3 x4 (by omega) (by omega) cx2 s0 sr2 (Or.inl rfl) hd2 (fun ρ h b3 b4 b5 b6 b7 b8 hs hf => ?_)
      have eM : A ++ (L1 ++ [n]) ++ ([] ++ M2 ++ B2) = (A ++ L1) ++ n :: (L2 ++ B) := by
        rw [List.nil_append, eY]
        simp
      rw [eM] at hs
      have nL2' : n ∉ L2 ++ B := by
        intro z
        exact nY (by simp only [List.cons_append, List.mem_cons]; exact Or.inr z)
      have eN2 : gc_cn (vp_updL a1 n (a1 x)) (upd a2 n (a2 x)) ((A ++ L1) ++ n :: (L2 ++ B)) = gc_cn a1 a2 (A ++ L1) ++ gc_cn a1 a2 (x :: L2 ++ B) := by
        rw [gc_cn_mid nX nL2' (fun y hy => ⟨pk_uLn hy, pk_un hy⟩), pk_us, pk_uLs]
        rfl
      refine H _ _ _ _ _ _ _ _ _ _ _ _ _ ⟨(A ++ L1) ++ n :: (L2 ++ B), x :: F, ρ, h, rfl, hs, hf, ?_, ?_, ?_, eN2.symm, ch.1, ch.2.1, by omega⟩ ch ttd
      · have nd3 := nd
        rw [show L ++ F = ((A ++ L1) ++ [n]) ++ x :: (L2 ++ B ++ F) by rw [eL]; simp] at nd3
        exact gc_nd_mv (by simp) nd3
      · intro y hy
        rcases List.mem_cons.mp hy with e | e
        · rw [e]; exact ⟨x0, x1⟩
        · exact rF y e
      · rw [eL] at len
        simp only [List.length_append, List.length_cons] at len ⊢
        omega
  · have et' : a2 n - 1 = nI (t - 1) := by
      rw [et]
      exact pk_sub (a := t) (b := 1) (by omega)
    have eC' : gc_cn a1 (upd a2 n (a2 n - 1)) L = gc_cn a1 a2 (A ++ L1) ++ (p, a2 n - 1) :: gc_cn a1 a2 (L2 ++ B) := by
      rw [eq, gc_cn_mid nX nY (fun x hx => ⟨rfl, pk_un hx⟩), ep, pk_us]
    have tt' : gc_tot (gc_cn a1 (upd a2 n (a2 n - 1)) L) = gc_tot (gc_cn a1 a2 (A ++ L1)) + (t - 1 + gc_tot (gc_cn a1 a2 (L2 ++ B))) := by
      rw [eC', gc_tot_app, gc_tot_cons]
      show _ + ((a2 n - 1).toNatClampNeg + _) = _
      rw [et', nI_clamp (by omega)]
    have ch : gc_ch p (gc_cn a1 a2 L) (gc_cn a1 (upd a2 n (a2 n - 1)) L) := by
      rw [eC']
      rw [eC] at so po ⊢
      exact gc_C_set so po (by omega) (by omega) et'
    have c2 : ∀ x, x ≠ n → a1 x = a1 x ∧ upd a2 n (a2 n - 1) x = a2 x ∧ a3 x = a3 x ∧ a4 x = a4 x ∧ a5 x = a5 x ∧ a6 x = a6 x ∧ a7 x = a7 x ∧ a8 x = a8 x := fun x hx => ⟨rfl, pk_un hx, rfl, rfl, rfl, rfl, rfl, rfl⟩
    refine nm_e ?_
    refine gc_mend (L := L) (k := d + 1) ndL lenL (by omega) ⟨n, l, r, hl, hr, max hl hr + 1, L1, L2, A, B, n0, n1, e9, h3, h4, gc_sub_congr (fun x hx => c2 x ?_) s1, gc_sub_congr (fun x hx => c2 x ?_) s2, by omega, by omega, gc_cx_congr (fun x hx => c2 x ?_) (fun _ _ => rfl) cx', eL, fun h' hq => ?_⟩ (fun ρ' h' b3 b4 b5 b6 b7 b8 s' ag => ?_)
    · rcases hx with e | e
      · omega
      · exact fun z => nL1 (z ▸ e)
    · rcases hx with e | e
      · omega
      · exact fun z => nL2 (z ▸ e)
    · rcases hx with e | e | e
      · omega
      · exact fun z => nA (z ▸ e)
      · exact fun z => nB (z ▸ e)
    · unfold gc_hr at hq
      omega
    · dsimp only
      exact H _ _ _ _ _ _ _ _ _ _ _ _ _ ⟨L, F, ρ', h', rfl, s', gc_fr_congr (fun x hx => (ag x (LF x hx)).1) fr, nd, rF, len, rfl, ch.1, ch.2.1, by omega⟩ ch (by omega)
theorem gc_drop {post : St1 → Prop} {p : Int64} {rt fn dp fl ce sb sa en : Int32} {a1 : Nat → Int64} {a2 a3 a4 a5 a6 a7 a8 a9 a10 a11 a12 a13 a14 : Nat → Int32} {C : List (Int64 × Int32)} (hT : gc_T rt fn a1 a2 a3 a4 a5 a6 a7 a8 C)
    (H : ∀ (rt' fn' dp' : Int32) (b1 : Nat → Int64) (b2 b3 b4 b5 b6 b7 b8 b9 : Nat → Int32) (C' : List (Int64 × Int32)), gc_T rt' fn' b1 b2 b3 b4 b5 b6 b7 b8 C' → gc_ch p C C' → ((∃ c, c ∈ C ∧ c.1 = p) → gc_tot C' + 1 = gc_tot C) → post (rt', fn', dp', fl, ce, sb, sa, en, b1, b2, b3, b4, b5, b6, b7, b8, b9, a10, a11, a12, a13, a14)) : wpX_drop post (rt, fn, dp, fl, ce, sb, sa, en, a1, a2, a3, a4, a5, a6, a7, a8, a9, a10, a11, a12, a13, a14) p := by
  obtain ⟨L, F, ρ, h, rfl, s, fr, nd, rF, len, rfl, so, po, t40⟩ := hT
  have hlen := gc_len_tot _ po
  rw [gc_cn_len] at hlen
  have hh := gc_sub_h s (by omega)
  have soL : L.Pairwise (fun x y => a1 x < a1 y) := by
    have so2 := so
    unfold gc_so gc_cn at so2
    rw [List.pairwise_map] at so2
    exact so2
  exact ⟨h + 1, gc_dropL soL
    (fun d n l r hl hr L1 L2 A B b9 n0 n1 h3 h4 h6 h7 s1 s2 ep cx eL hd => gc_drop73 fr nd rF len so po t40 n0 n1 h3 h4 h6 h7 s1 s2 ep cx eL hd (fun rt' fn' dp' b1 b2 b3 b4 b5 b6 b7 b8 b9 C' q1 q2 q3 => H rt' fn' dp' b1 b2 b3 b4 b5 b6 b7 b8 b9 C' q1 q2 (fun _ => q3)))
    (fun d A B b9 eL hA hB => H _ _ _ _ _ _ _ _ _ _ _ _ _ ⟨L, F, ρ, h, rfl, s, fr, nd, rF, len, rfl, so, po, t40⟩ ⟨so, po, fun _ _ => rfl⟩ (fun hc => by
      exfalso
      obtain ⟨c, hc, e⟩ := hc
      obtain ⟨x, hx, rfl⟩ := List.mem_map.mp hc
      rw [eL] at hx
      rcases List.mem_append.mp hx with q | q
      · have := hA x q
        rw [← e] at this
        exact Int64.lt_irrefl this
      · have := hB x q
        rw [← e] at this
        exact Int64.lt_irrefl this))
    h ρ 0 L [] [] a9 (h + 1) s ⟨rfl, rfl⟩ (by simp) (fun x hx => absurd hx (by simp)) (fun x hx => absurd hx (by simp)) (by omega) (by omega)⟩
end
section
def gc_st (k : Nat) : Int64 := lN (k * 4294967296)
theorem gc_placeS : ∀ k, k < 8 → (((nI k).toInt64 <<< ((32 : Int32).toInt64 &&& 63)) + (-2147483648 : Int32).toInt64) + 2147483648 = gc_st k := by decide +kernel
theorem gc_placeE : ∀ k, k < 8 → ((nI k + 1).toInt64) <<< ((32 : Int32).toInt64 &&& 63) = gc_st (k + 1) := by decide +kernel
theorem gc_stle : ∀ k, k < 8 → gc_st k ≤ gc_st (k + 1) := by decide +kernel
theorem gc_placeSW {post : Int64 → Prop} {k : Nat} (hk : k < 8) (h : post (gc_st k)) : wpX_placeOf post () (nI k) (-2147483648) := by
  unfold wpX_placeOf
  rw [gc_placeS k hk]
  exact h
theorem gc_placeEW {post : Int64 → Prop} {k : Nat} (hk : k < 8) (h : post (gc_st (k + 1))) : wpX_placeOfEnd post () (nI k) := by
  unfold wpX_placeOfEnd
  rw [gc_placeE k hk]
  exact h
theorem gc_valueOfW {post : Int32 → Prop} {p : Int64} (h : post (gc_val p)) : wpX_valueOf post () p := h
def gc_gr (k : Nat) (C : List (Int64 × Int32)) : List (Int64 × Int32) := C.filter (gc_gk (gc_st k) (gc_st (k + 1)))
def gc_bi (b : Bool) : Int32 := if b = true then 1 else 0
def gc_Q (rt : Int32) (a1 : Nat → Int64) (a2 a3 a4 a5 a6 a7 a8 : Nat → Int32) (C : List (Int64 × Int32)) : Prop :=
  ∃ (ρ h : Nat) (L : List Nat), rt = nI ρ ∧ gc_sub a1 a2 a3 a4 a5 a6 a7 a8 h ρ L ∧ h ≤ 7 ∧ C = gc_cn a1 a2 L ∧ gc_so C ∧ gc_pos C ∧ gc_tot C ≤ 40
theorem gc_TQ {rt fn : Int32} {a1 : Nat → Int64} {a2 a3 a4 a5 a6 a7 a8 : Nat → Int32} {C : List (Int64 × Int32)} (hT : gc_T rt fn a1 a2 a3 a4 a5 a6 a7 a8 C) : gc_Q rt a1 a2 a3 a4 a5 a6 a7 a8 C := by
  obtain ⟨L, F, ρ, h, rfl, s, fr, nd, rF, len, rfl, so, po, t40⟩ := hT
  have hlen := gc_len_tot _ po
  rw [gc_cn_len] at hlen
  exact ⟨ρ, h, L, rfl, s, gc_sub_h s (by omega), rfl, so, po, t40⟩
theorem gc_isub (x y : Int32) : (x + y) - x = y := by grind
theorem gc_upd_fill {s f : Nat → Int32} {i k : Nat} {x : Int32} (hk : k = i) (h : ∀ j, j < i → s j = f j) (hx : x = f i) : ∀ j, j < i + 1 → upd s k x j = f j := by
  intro j hj
  rw [hk]
  by_cases e : j = i
  · rw [e, pk_us, hx]
  · rw [pk_un e]
    exact h j (by omega)
theorem gc_rk_mid {C B G R : List (Int64 × Int32)} {j : Nat} (e : C = B ++ (G ++ R)) (hj : j < gc_tot G) : gc_rk C (gc_tot B + j) = gc_rk G j := by
  subst e
  rw [gc_rk_ge (by omega), Nat.add_sub_cancel_left]
  exact gc_rk_lt hj
theorem gc_fd_nil (j : Nat) : gc_fd [] j = 0 := rfl
theorem gc_fdS {G : List (Int64 × Int32)} (hG : G ≠ []) (b : Nat → Int32) (j : Nat) (hj : j < 6) : upd (upd (upd (upd (upd (upd b 0 (gc_is gc_w G)) 1 (gc_is gc_s G)) 2 (gc_val (gc_rk G 0))) 3 (gc_val (gc_rk G (gc_tot G - 1)))) 4 (gc_is gc_o G)) 5 (gc_val (gc_rk G ((gc_tot G - 1) / 2))) j = gc_fd G j := by
  unfold gc_fd
  rw [if_neg hG]
  have : j = 0 ∨ j = 1 ∨ j = 2 ∨ j = 3 ∨ j = 4 ∨ j = 5 := by omega
  rcases this with rfl | rfl | rfl | rfl | rfl | rfl <;> simp [upd]
theorem gc_describe {post : St1 → Prop} {rt fn dp fl ce sb sa en : Int32} {a1 : Nat → Int64} {a2 a3 a4 a5 a6 a7 a8 a9 a10 a11 a12 a13 a14 : Nat → Int32} {k : Nat} {C : List (Int64 × Int32)} (hk : k < 8) (hQ : gc_Q rt a1 a2 a3 a4 a5 a6 a7 a8 C)
    (H : ∀ b11 : Nat → Int32, (∀ j, j < 6 → b11 j = gc_fd (gc_gr k C) j) → post (rt, fn, dp, fl, ce, sb, gc_bi (gc_sw fl ce (gc_gr k C)), en, a1, a2, a3, a4, a5, a6, a7, a8, a9, a10, b11, a12, a13, a14)) : wpX_describe post (rt, fn, dp, fl, ce, sb, sa, en, a1, a2, a3, a4, a5, a6, a7, a8, a9, a10, a11, a12, a13, a14) (nI k) := by
  obtain ⟨ρ, h, L, rfl, s, hh, rfl, so, po, t40⟩ := hQ
  have H' : ∀ (b11 : Nat → Int32) (v : Int32), (∀ j, j < 6 → b11 j = gc_fd (gc_gr k (gc_cn a1 a2 L)) j) → gc_bi (gc_sw fl ce (gc_gr k (gc_cn a1 a2 L))) = v → post (nI ρ, fn, dp, fl, ce, sb, v, en, a1, a2, a3, a4, a5, a6, a7, a8, a9, a10, b11, a12, a13, a14) := fun b v hb hv => hv ▸ H b hb
  obtain ⟨sp, R, spR⟩ := gc_split (s := gc_st k) (e := gc_st (k + 1)) so (gc_stle k hk)
  have poG : gc_pos (gc_gr k (gc_cn a1 a2 L)) := gc_pos_fil po _
  have poB : gc_pos ((gc_cn a1 a2 L).filter (gc_bl (gc_st k))) := gc_pos_fil po _
  change _ = _ ++ gc_gr k (gc_cn a1 a2 L) at sp
  change _ = _ ++ (gc_gr k (gc_cn a1 a2 L) ++ R) at spR
  generalize gc_gr k (gc_cn a1 a2 L) = G at *
  have tC : gc_tot (gc_cn a1 a2 L) = gc_tot ((gc_cn a1 a2 L).filter (gc_bl (gc_st k))) + (gc_tot G + gc_tot R) := by
    conv => lhs; rw [spR]
    rw [gc_tot_app, gc_tot_app]
  have rk : ∀ j, j < gc_tot G → gc_rk (gc_cn a1 a2 L) (gc_tot ((gc_cn a1 a2 L).filter (gc_bl (gc_st k))) + j) = gc_rk G j := fun j hj => gc_rk_mid spR hj
  have isB := gc_is_tot _ poB
  have isG := gc_is_tot _ poG
  generalize hf : gc_tot ((gc_cn a1 a2 L).filter (gc_bl (gc_st k))) = f at tC rk isB
  generalize ht : gc_tot G = t at tC rk isG
  unfold wpX_describe
  dsimp only
  refine gc_placeSW hk (gc_placeEW hk (gc_rowsB s so hh (gc_rowsB s so hh (nm_r (e' := nI t) ?_ ?_))))
  · rw [sp, gc_is_app, gc_isub, isG]
  rw [isB]
  refine pk_loop (fun n i x => wX_describe_39 post (gc_st k) (gc_st (k + 1)) (nI f) (nI t) (nI ρ) fn dp fl ce sb 0 en n (nI i) a1 a2 a3 a4 a5 a6 a7 a8 a9 a10 x a12 a13 a14) (fun i x => ∀ j, j < i → x j = 0) 6 0 a11 (by omega) (fun j hj => absurd hj (by omega)) ?_ ?_
  · intro n b hb
    refine pk_le 6 6 (fun _ => ?_) (fun z => absurd z (by omega))
    refine pk_eq t 0 (fun tz => ?_) (fun tz => ?_)
    · have Gz : G = [] := by
        have := gc_len_tot G poG
        rw [ht, tz] at this
        exact List.length_eq_zero_iff.mp (by omega)
      subst Gz
      exact H' b 0 (fun j hj => by rw [hb j hj, gc_fd_nil]) rfl
    · have Gn : G ≠ [] := by
        intro e
        rw [e] at ht
        exact tz ht.symm
      have i1 : nI f + nI t - 1 = nI (f + (t - 1)) := by
        rw [nI_add, show f + t = (f + (t - 1)) + 1 by omega, nI_pred]
      have i2 : nI f + (nI t - 1) / 2 = nI (f + (t - 1) / 2) := by
        have e1 : nI t - 1 = nI (t - 1) := by
          rw [show t = (t - 1) + 1 by omega, nI_pred]
          congr 1
        have e2 : nI (t - 1) / 2 = nI ((t - 1) / 2) := pk_div (a := t - 1) (d := 2) (by omega) (by omega) (by omega)
        rw [e1, e2, nI_add]
      rw [i1, i2]
      refine nm_e (gc_sumB s so hh (gc_sumB s so hh (nm_r (e' := upd (upd b 0 (nI t)) 1 (gc_is gc_s G)) (by rw [sp, gc_is_app, gc_isub]) ?_)))
      refine gc_rowAt (j := f) s po t40 hh (by omega) ?_
      refine gc_rowAt (j := f + (t - 1)) s po t40 hh (by omega) ?_
      refine ⟨by decide, ?_⟩
      refine gc_rowAt (j := f + (t - 1) / 2) s po t40 hh (by omega) ?_
      have r0 := rk 0 (by omega)
      rw [Nat.add_zero] at r0
      rw [r0, rk (t - 1) (by omega), rk ((t - 1) / 2) (by omega)]
      refine gc_valueOfW (nm_e (gc_valueOfW (nm_e ?_)))
      refine gc_kindsB s so hh (gc_kindsB s so hh (nm_r (e' := upd (upd (upd (upd (upd b 0 (nI t)) 1 (gc_is gc_s G)) 2 (gc_val (gc_rk G 0))) 3 (gc_val (gc_rk G (t - 1)))) 4 (gc_is gc_o G)) (by rw [sp, gc_is_app, gc_isub]) ?_))
      refine gc_valueOfW (nm_e ?_)
      have F := gc_fdS Gn b
      rw [isG, ht] at F
      have c4 : upd (upd (upd (upd (upd (upd b 0 (nI t)) 1 (gc_is gc_s G)) 2 (gc_val (gc_rk G 0))) 3 (gc_val (gc_rk G (t - 1)))) 4 (gc_is gc_o G)) 5 (gc_val (gc_rk G ((t - 1) / 2))) 4 = gc_is gc_o G := by rw [pk_un (by decide), pk_us]
      rw [c4]
      refine br_c (fun g => H' _ 0 F ?_) (fun g => br_c (fun g2 => H' _ 0 F ?_) (fun g2 => H' _ 1 F ?_))
      · unfold gc_sw gc_bi
        rw [isG, if_neg (by simp; intro _ g3; exact absurd g (by simpa using g3))]
      · unfold gc_sw gc_bi
        rw [isG, if_neg (by simp; intro _ _; exact g2)]
      · unfold gc_sw gc_bi
        rw [isG, if_pos (by simp only [decide_eq_true_eq]; exact ⟨Gn, g, g2⟩)]
  · intro n i x hi hx hw
    refine pk_le 6 i (fun z => absurd z (by omega)) (fun _ => ⟨pk_in i 6 hi, nm_e (nm_r (nI_1 i) (hw _ (gc_upd_fill (f := fun _ => 0) (nI_clamp (by omega)) hx rfl)))⟩)
end
section
theorem gc_note {post : St1 → Prop} {rt fn dp fl ce sb sa en : Int32} {a1 : Nat → Int64} {a2 a3 a4 a5 a6 a7 a8 a9 a10 a11 a12 a13 a14 : Nat → Int32} {k : Nat} {C : List (Int64 × Int32)} (hk : k < 8) (hQ : gc_Q rt a1 a2 a3 a4 a5 a6 a7 a8 C)
    (H : ∀ b10 b11 : Nat → Int32, (∀ j, j < 6 → b10 j = gc_fd (gc_gr k C) j) → post (rt, fn, dp, fl, ce, gc_bi (gc_sw fl ce (gc_gr k C)), gc_bi (gc_sw fl ce (gc_gr k C)), en, a1, a2, a3, a4, a5, a6, a7, a8, a9, b10, b11, a12, a13, a14)) : wpX_noteBefore post (rt, fn, dp, fl, ce, sb, sa, en, a1, a2, a3, a4, a5, a6, a7, a8, a9, a10, a11, a12, a13, a14) (nI k) := by
  unfold wpX_noteBefore
  dsimp only
  refine gc_describe hk hQ (fun b11 hb => ?_)
  dsimp only
  refine ⟨by cases gc_sw fl ce (gc_gr k C) <;> rfl, by cases gc_sw fl ce (gc_gr k C) <;> rfl, ?_⟩
  refine pk_loop (fun n i x => wX_noteBefore_15 post rt fn dp fl ce (gc_bi (gc_sw fl ce (gc_gr k C))) (gc_bi (gc_sw fl ce (gc_gr k C))) en n (nI i) a1 a2 a3 a4 a5 a6 a7 a8 a9 x b11 a12 a13 a14) (fun i x => ∀ j, j < i → x j = b11 j) 6 0 a10 (by omega) (fun j hj => absurd hj (by omega)) ?_ ?_
  · intro n x hx
    exact pk_le 6 6 (fun _ => H x b11 (fun j hj => by rw [hx j hj, hb j hj])) (fun z => absurd z (by omega))
  · intro n i x hi hx hw
    refine pk_le 6 i (fun z => absurd z (by omega)) (fun _ => ⟨pk_in i 6 hi, pk_in i 6 hi, nm_e (nm_r (nI_1 i) (hw _ (gc_upd_fill (f := b11) (nI_clamp (by omega)) hx (by rw [nI_clamp (by omega)]))))⟩)
def gc_ent (a12 a13 a14 : Nat → Int32) (i : Nat) (s : Int32) (k : Nat) (f : Nat → Int32) : Prop := a12 i = s ∧ a13 i = nI k ∧ ∀ j, j < 6 → a14 (6 * i + j) = f j
def gc_keep (e : Nat) (a12 a13 a14 b12 b13 b14 : Nat → Int32) : Prop := (∀ i, i < e → b12 i = a12 i ∧ b13 i = a13 i) ∧ ∀ i, i < 6 * e → b14 i = a14 i
theorem gc_keep_refl {e : Nat} {a12 a13 a14 : Nat → Int32} : gc_keep e a12 a13 a14 a12 a13 a14 := ⟨fun _ _ => ⟨rfl, rfl⟩, fun _ _ => rfl⟩
theorem gc_keep_tr {e e' : Nat} {a12 a13 a14 b12 b13 b14 c12 c13 c14 : Nat → Int32} (he : e ≤ e') (h : gc_keep e a12 a13 a14 b12 b13 b14) (h' : gc_keep e' b12 b13 b14 c12 c13 c14) : gc_keep e a12 a13 a14 c12 c13 c14 :=
  ⟨fun i hi => ⟨((h'.1 i (by omega)).1).trans (h.1 i hi).1, ((h'.1 i (by omega)).2).trans (h.1 i hi).2⟩, fun i hi => (h'.2 i (by omega)).trans (h.2 i hi)⟩
theorem gc_ent_keep {e i : Nat} {a12 a13 a14 b12 b13 b14 : Nat → Int32} {s : Int32} {k : Nat} {f : Nat → Int32} (h : gc_keep e a12 a13 a14 b12 b13 b14) (hi : i < e) (g : gc_ent a12 a13 a14 i s k f) : gc_ent b12 b13 b14 i s k f :=
  ⟨(h.1 i hi).1.trans g.1, (h.1 i hi).2.trans g.2.1, fun j hj => (h.2 (6 * i + j) (by omega)).trans (g.2.2 j hj)⟩
theorem gc_mul6 {e i : Nat} : (6 * (nI (e + 1) - 1)) + nI i = nI (6 * e + i) := by
  rw [nI_pred]
  have : (6 : Int32) = nI 6 := rfl
  rw [this, pk_mul, nI_add]
theorem gc_app {post : St1 → Prop} {rt fn dp fl ce sb sa : Int32} {a1 : Nat → Int64} {a2 a3 a4 a5 a6 a7 a8 a9 a10 a11 a12 a13 a14 : Nat → Int32} {e : Nat} {s : Int32} {k : Nat} (he : e < 24)
    (H : ∀ b12 b13 : Nat → Int32, (∀ i, i < e → b12 i = a12 i ∧ b13 i = a13 i) → b12 e = s → b13 e = nI k → post (rt, fn, dp, fl, ce, sb, sa, nI (e + 1), a1, a2, a3, a4, a5, a6, a7, a8, a9, a10, a11, b12, b13, a14)) : wpX_startEntry post (rt, fn, dp, fl, ce, sb, sa, nI e, a1, a2, a3, a4, a5, a6, a7, a8, a9, a10, a11, a12, a13, a14) s (nI k) := by
  unfold wpX_startEntry
  dsimp only
  rw [nI_clamp (show e < 2 ^ 31 by omega)]
  refine ⟨vp_in_nI (by omega) (by omega), nm_e ⟨vp_in_nI (by omega) (by omega), nm_e (nm_r (nI_1 e) ?_)⟩⟩
  exact H _ _ (fun i hi => ⟨pk_un (by omega), pk_un (by omega)⟩) pk_us pk_us
theorem gc_log133 {post : St1 → Prop} {rt fn dp fl ce sb sa : Int32} {a1 : Nat → Int64} {a2 a3 a4 a5 a6 a7 a8 a9 a10 a11 a12 a13 a14 : Nat → Int32} {e : Nat} (he : e < 24)
    (H : ∀ b14 : Nat → Int32, (∀ i, i < 6 * e → b14 i = a14 i) → (∀ j, j < 6 → b14 (6 * e + j) = a11 j) → post (rt, fn, dp, fl, ce, sb, sa, nI (e + 1), a1, a2, a3, a4, a5, a6, a7, a8, a9, a10, a11, a12, a13, b14)) : ∃ fu, wX_logChange_133 post rt fn dp fl ce sb sa (nI (e + 1)) fu 0 a1 a2 a3 a4 a5 a6 a7 a8 a9 a10 a11 a12 a13 a14 := by
  refine pk_loop (fun n i x => wX_logChange_133 post rt fn dp fl ce sb sa (nI (e + 1)) n (nI i) a1 a2 a3 a4 a5 a6 a7 a8 a9 a10 a11 a12 a13 x) (fun i x => (∀ j, j < 6 * e → x j = a14 j) ∧ ∀ j, j < i → x (6 * e + j) = a11 j) 6 0 a14 (by omega) ⟨fun _ _ => rfl, fun j hj => absurd hj (by omega)⟩ ?_ ?_
  · intro n x hx
    exact pk_le 6 6 (fun _ => H x hx.1 hx.2) (fun z => absurd z (by omega))
  · intro n i x hi hx hw
    refine pk_le 6 i (fun z => absurd z (by omega)) (fun _ => ⟨pk_in i 6 hi, ?_⟩)
    rw [gc_mul6, nI_clamp (show 6 * e + i < 2 ^ 31 by omega), nI_clamp (show i < 2 ^ 31 by omega)]
    refine ⟨vp_in_nI (by omega) (by omega), nm_e (nm_r (nI_1 i) (hw _ ⟨fun j hj => ?_, fun j hj => ?_⟩))⟩
    · rw [pk_un (by omega)]
      exact hx.1 j hj
    · by_cases q : j = i
      · rw [q, pk_us]
      · rw [pk_un (by omega)]
        exact hx.2 j (by omega)
theorem gc_log84 {post : St1 → Prop} {key : Int32} {rt fn dp fl ce sb sa : Int32} {a1 : Nat → Int64} {a2 a3 a4 a5 a6 a7 a8 a9 a10 a11 a12 a13 a14 : Nat → Int32} {e : Nat} (he : e < 24)
    (H : ∀ b14 : Nat → Int32, (∀ i, i < 6 * e → b14 i = a14 i) → (∀ j, j < 6 → b14 (6 * e + j) = a10 j) → wX_logChange_118 post key rt fn dp fl ce sb sa (nI (e + 1)) a1 a2 a3 a4 a5 a6 a7 a8 a9 a10 a11 a12 a13 b14) : ∃ fu, wX_logChange_84 post key rt fn dp fl ce sb sa (nI (e + 1)) fu 0 a1 a2 a3 a4 a5 a6 a7 a8 a9 a10 a11 a12 a13 a14 := by
  refine pk_loop (fun n i x => wX_logChange_84 post key rt fn dp fl ce sb sa (nI (e + 1)) n (nI i) a1 a2 a3 a4 a5 a6 a7 a8 a9 a10 a11 a12 a13 x) (fun i x => (∀ j, j < 6 * e → x j = a14 j) ∧ ∀ j, j < i → x (6 * e + j) = a10 j) 6 0 a14 (by omega) ⟨fun _ _ => rfl, fun j hj => absurd hj (by omega)⟩ ?_ ?_
  · intro n x hx
    exact pk_le 6 6 (fun _ => H x hx.1 hx.2) (fun z => absurd z (by omega))
  · intro n i x hi hx hw
    refine pk_le 6 i (fun z => absurd z (by omega)) (fun _ => ⟨pk_in i 6 hi, ?_⟩)
    rw [gc_mul6, nI_clamp (show 6 * e + i < 2 ^ 31 by omega), nI_clamp (show i < 2 ^ 31 by omega)]
    refine ⟨vp_in_nI (by omega) (by omega), nm_e (nm_r (nI_1 i) (hw _ ⟨fun j hj => ?_, fun j hj => ?_⟩))⟩
    · rw [pk_un (by omega)]
      exact hx.1 j hj
    · by_cases q : j = i
      · rw [q, pk_us]
      · rw [pk_un (by omega)]
        exact hx.2 j (by omega)
def gc_nb (b : Bool) : Nat := if b = true then 1 else 0
theorem gc_log118 {post : St1 → Prop} {rt fn dp fl ce sb : Int32} {a1 : Nat → Int64} {a2 a3 a4 a5 a6 a7 a8 a9 a10 a11 a12 a13 a14 : Nat → Int32} {e k : Nat} {b1 : Bool} (he : e < 24)
    (H : ∀ b12 b13 b14 : Nat → Int32, gc_keep e a12 a13 a14 b12 b13 b14 → (b1 = true → gc_ent b12 b13 b14 e 2 k a11) → post (rt, fn, dp, fl, ce, sb, gc_bi b1, nI (e + gc_nb b1), a1, a2, a3, a4, a5, a6, a7, a8, a9, a10, a11, b12, b13, b14)) : wX_logChange_118 post (nI k) rt fn dp fl ce sb (gc_bi b1) (nI e) a1 a2 a3 a4 a5 a6 a7 a8 a9 a10 a11 a12 a13 a14 := by
  unfold wX_logChange_118
  cases b1 with
  | false => exact br_t rfl (H _ _ _ gc_keep_refl (fun z => absurd z (by decide)))
  | true =>
    refine br_f (by decide) (gc_app he (fun b12 b13 h1 h2 h3 => ?_))
    dsimp only
    exact gc_log133 he (fun b14 g1 g2 => H b12 b13 b14 ⟨h1, g1⟩ (fun _ => ⟨h2, h3, g2⟩))
theorem gc_log27 {post : St1 → Prop} {rt fn dp fl ce : Int32} {a1 : Nat → Int64} {a2 a3 a4 a5 a6 a7 a8 a9 a10 a11 a12 a13 a14 : Nat → Int32} {e k : Nat} {b0 b1 : Bool} (he : e ≤ 22)
    (H : ∀ (e' : Nat) (b12 b13 b14 : Nat → Int32), gc_keep e a12 a13 a14 b12 b13 b14 → ((e' = e ∧ b0 = true ∧ b1 = true ∧ ∀ j, j < 6 → a10 j = a11 j) ∨ (e' = e + gc_nb b0 + gc_nb b1 ∧ (b0 = true → gc_ent b12 b13 b14 e 1 k a10) ∧ (b1 = true → gc_ent b12 b13 b14 (e + gc_nb b0) 2 k a11))) → post (rt, fn, dp, fl, ce, gc_bi b0, gc_bi b1, nI e', a1, a2, a3, a4, a5, a6, a7, a8, a9, a10, a11, b12, b13, b14)) : ∃ fu, wX_logChange_27 post (nI k) rt fn dp fl ce (gc_bi b0) (gc_bi b1) (nI e) a1 a2 a3 a4 a5 a6 a7 a8 a9 a10 a11 a12 a13 a14 fu (gc_bi (b0 && b1)) 0 := by
  refine pk_loop (fun n i x => wX_logChange_27 post (nI k) rt fn dp fl ce (gc_bi b0) (gc_bi b1) (nI e) a1 a2 a3 a4 a5 a6 a7 a8 a9 a10 a11 a12 a13 a14 n (gc_bi x) (nI i)) (fun i x => x = true → b0 = true ∧ b1 = true ∧ ∀ j, j < i → a10 j = a11 j) 6 0 (b0 && b1) (by omega) (fun z => ?_) ?_ ?_
  · rw [Bool.and_eq_true] at z
    exact ⟨z.1, z.2, fun j hj => absurd hj (by omega)⟩
  · intro n x hx
    refine pk_le 6 6 (fun _ => ?_) (fun z => absurd z (by omega))
    cases x with
    | true => exact br_f (by decide) (H e _ _ _ gc_keep_refl (Or.inl ⟨rfl, (hx rfl).1, (hx rfl).2.1, (hx rfl).2.2⟩))
    | false =>
      refine br_t rfl ?_
      cases b0 with
      | false =>
        refine br_t rfl (gc_log118 (by omega) (fun b12 b13 b14 h1 h2 => ?_))
        exact H (e + gc_nb b1) b12 b13 b14 h1 (Or.inr ⟨rfl, fun z => absurd z (by decide), h2⟩)
      | true =>
        refine br_f (by decide) (gc_app (by omega) (fun b12 b13 h1 h2 h3 => ?_))
        dsimp only
        refine gc_log84 (by omega) (fun b14 g1 g2 => ?_)
        refine gc_log118 (by omega) (fun c12 c13 c14 w1 w2 => ?_)
        exact H (e + 1 + gc_nb b1) c12 c13 c14 (gc_keep_tr (by omega) ⟨h1, g1⟩ w1) (Or.inr ⟨rfl, fun _ => gc_ent_keep w1 (by omega) ⟨h2, h3, g2⟩, w2⟩)
  · intro n i x hi hx hw
    refine pk_le 6 i (fun z => absurd z (by omega)) (fun _ => ?_)
    cases x with
    | false => exact br_t rfl (nm_r (nI_1 i) (hw false (fun z => absurd z (by decide))))
    | true =>
      refine br_f (by decide) ⟨pk_in i 6 hi, pk_in i 6 hi, ?_⟩
      rw [nI_clamp (show i < 2 ^ 31 by omega)]
      refine br_c (fun g => nm_r (nI_1 i) (hw true (fun _ => ⟨(hx rfl).1, (hx rfl).2.1, fun j hj => ?_⟩))) (fun g => nm_r (nI_1 i) (hw false (fun z => absurd z (by decide))))
      by_cases q : j = i
      · rw [q]; exact g
      · exact (hx rfl).2.2 j (by omega)
def gc_lg (k e e' : Nat) (b0 b1 : Bool) (f0 f1 a12 a13 a14 b12 b13 b14 : Nat → Int32) : Prop :=
  gc_keep e a12 a13 a14 b12 b13 b14 ∧ ((e' = e ∧ b0 = true ∧ b1 = true ∧ ∀ j, j < 6 → f0 j = f1 j) ∨ (e' = e + gc_nb b0 + gc_nb b1 ∧ (b0 = true → gc_ent b12 b13 b14 e 1 k f0) ∧ (b1 = true → gc_ent b12 b13 b14 (e + gc_nb b0) 2 k f1)))
theorem gc_ent_f {i : Nat} {a12 a13 a14 : Nat → Int32} {s : Int32} {k : Nat} {f g : Nat → Int32} (hf : ∀ j, j < 6 → f j = g j) (h : gc_ent a12 a13 a14 i s k f) : gc_ent a12 a13 a14 i s k g :=
  ⟨h.1, h.2.1, fun j hj => (h.2.2 j hj).trans (hf j hj)⟩
theorem gc_log {post : St1 → Prop} {rt fn dp fl ce sa : Int32} {a1 : Nat → Int64} {a2 a3 a4 a5 a6 a7 a8 a9 a10 a11 a12 a13 a14 : Nat → Int32} {e k : Nat} {b0 : Bool} {f0 : Nat → Int32} {C : List (Int64 × Int32)} (hk : k < 8) (hQ : gc_Q rt a1 a2 a3 a4 a5 a6 a7 a8 C) (he : e ≤ 22) (h10 : ∀ j, j < 6 → a10 j = f0 j)
    (H : ∀ (e' : Nat) (b11 b12 b13 b14 : Nat → Int32), gc_lg k e e' b0 (gc_sw fl ce (gc_gr k C)) f0 (gc_fd (gc_gr k C)) a12 a13 a14 b12 b13 b14 → post (rt, fn, dp, fl, ce, gc_bi b0, gc_bi (gc_sw fl ce (gc_gr k C)), nI e', a1, a2, a3, a4, a5, a6, a7, a8, a9, a10, b11, b12, b13, b14)) : wpX_logChange post (rt, fn, dp, fl, ce, gc_bi b0, sa, nI e, a1, a2, a3, a4, a5, a6, a7, a8, a9, a10, a11, a12, a13, a14) (nI k) := by
  unfold wpX_logChange
  dsimp only
  refine gc_describe hk hQ (fun b11 hb => ?_)
  dsimp only
  have K := gc_log27 (post := post) (rt := rt) (fn := fn) (dp := dp) (fl := fl) (ce := ce) (a1 := a1) (a2 := a2) (a3 := a3) (a4 := a4) (a5 := a5) (a6 := a6) (a7 := a7) (a8 := a8) (a9 := a9) (a10 := a10) (a11 := b11) (a12 := a12) (a13 := a13) (a14 := a14) (k := k) (b0 := b0) (b1 := gc_sw fl ce (gc_gr k C)) he (fun e' b12 b13 b14 h1 h2 => H e' b11 b12 b13 b14 ⟨h1, by
    rcases h2 with ⟨q1, q2, q3, q4⟩ | ⟨q1, q2, q3⟩
    · exact Or.inl ⟨q1, q2, q3, fun j hj => by rw [← h10 j hj, q4 j hj, hb j hj]⟩
    · exact Or.inr ⟨q1, fun z => gc_ent_f h10 (q2 z), fun z => gc_ent_f hb (q3 z)⟩⟩)
  generalize gc_sw fl ce (gc_gr k C) = b1 at K ⊢
  cases b0 with
  | false => exact br_t rfl K
  | true =>
    cases b1 with
    | false => exact br_f (by decide) (br_t rfl K)
    | true => exact br_f (by decide) (br_f (by decide) K)
end
section
abbrev gc_V : Type := (Nat → Bool) × (Nat → Nat → Int32)
def gc_vw (fl ce : Int32) (C : List (Int64 × Int32)) : gc_V := (fun k => gc_sw fl ce (gc_gr k C), fun k => gc_fd (gc_gr k C))
def gc_eqv (V W : gc_V) : Prop := ∀ k, k < 8 → W.1 k = V.1 k ∧ (V.1 k = true → ∀ j, j < 6 → W.2 k j = V.2 k j)
theorem gc_eqv_refl (V : gc_V) : gc_eqv V V := fun _ _ => ⟨rfl, fun _ _ _ => rfl⟩
theorem gc_eqv_tr {V W X : gc_V} (h : gc_eqv V W) (h' : gc_eqv W X) : gc_eqv V X := fun k hk =>
  ⟨(h' k hk).1.trans (h k hk).1, fun z j hj => ((h' k hk).2 (by rw [(h k hk).1, z]) j hj).trans ((h k hk).2 z j hj)⟩
def gc_step (a12 a13 a14 : Nat → Int32) (i : Nat) (V W : gc_V) : Prop :=
  ∃ key, key < 8 ∧ a13 i = nI key ∧ (∀ k, k < 8 → k ≠ key → W.1 k = V.1 k ∧ (V.1 k = true → ∀ j, j < 6 → W.2 k j = V.2 k j)) ∧
    ((a12 i = 1 ∧ V.1 key = true ∧ W.1 key = false ∧ ∀ j, j < 6 → a14 (6 * i + j) = V.2 key j) ∨ (a12 i = 2 ∧ V.1 key = false ∧ W.1 key = true ∧ ∀ j, j < 6 → a14 (6 * i + j) = W.2 key j))
theorem gc_step_eqv {a12 a13 a14 : Nat → Int32} {i : Nat} {Z V W : gc_V} (h : gc_eqv Z V) (s : gc_step a12 a13 a14 i V W) : gc_step a12 a13 a14 i Z W := by
  obtain ⟨key, hk, e, h1, h2⟩ := s
  refine ⟨key, hk, e, fun k k8 kn => ?_, ?_⟩
  · refine ⟨(h1 k k8 kn).1.trans (h k k8).1, fun z j hj => ?_⟩
    rw [(h1 k k8 kn).2 (by rw [(h k k8).1, z]) j hj, (h k k8).2 z j hj]
  · rcases h2 with ⟨q1, q2, q3, q4⟩ | ⟨q1, q2, q3, q4⟩
    · have z : Z.1 key = true := by rw [← (h key hk).1, q2]
      exact Or.inl ⟨q1, z, q3, fun j hj => by rw [q4 j hj, (h key hk).2 z j hj]⟩
    · exact Or.inr ⟨q1, by rw [← (h key hk).1, q2], q3, q4⟩
theorem gc_step_keep {a12 a13 a14 b12 b13 b14 : Nat → Int32} {e i : Nat} {V W : gc_V} (h : gc_keep e a12 a13 a14 b12 b13 b14) (hi : i < e) (s : gc_step a12 a13 a14 i V W) : gc_step b12 b13 b14 i V W := by
  obtain ⟨key, hk, q, h1, h2⟩ := s
  refine ⟨key, hk, (h.1 i hi).2.trans q, h1, ?_⟩
  rcases h2 with ⟨q1, q2, q3, q4⟩ | ⟨q1, q2, q3, q4⟩
  · exact Or.inl ⟨(h.1 i hi).1.trans q1, q2, q3, fun j hj => (h.2 _ (by omega)).trans (q4 j hj)⟩
  · exact Or.inr ⟨(h.1 i hi).1.trans q1, q2, q3, fun j hj => (h.2 _ (by omega)).trans (q4 j hj)⟩
def gc_rp (a12 a13 a14 : Nat → Int32) (s e : Nat) (V W : gc_V) : Prop :=
  s ≤ e ∧ ∃ Z : Nat → gc_V, gc_eqv V (Z s) ∧ gc_eqv (Z e) W ∧ ∀ i, s ≤ i → i < e → gc_step a12 a13 a14 i (Z i) (Z (i + 1))
theorem gc_rp_0 {a12 a13 a14 : Nat → Int32} {s : Nat} {V W : gc_V} (h : gc_eqv V W) : gc_rp a12 a13 a14 s s V W :=
  ⟨Nat.le_refl _, fun _ => V, gc_eqv_refl _, h, fun i h1 h2 => absurd h1 (by omega)⟩
theorem gc_rp_r {a12 a13 a14 : Nat → Int32} {s e : Nat} {V W X : gc_V} (h : gc_rp a12 a13 a14 s e V W) (g : gc_eqv W X) : gc_rp a12 a13 a14 s e V X := by
  obtain ⟨h0, Z, h1, h2, h3⟩ := h
  exact ⟨h0, Z, h1, gc_eqv_tr h2 g, h3⟩
theorem gc_rp_snoc {a12 a13 a14 : Nat → Int32} {s e : Nat} {V W X : gc_V} (h : gc_rp a12 a13 a14 s e V W) (g : gc_step a12 a13 a14 e W X) : gc_rp a12 a13 a14 s (e + 1) V X := by
  obtain ⟨h0, Z, h1, h2, h3⟩ := h
  refine ⟨by omega, fun i => if i ≤ e then Z i else X, ?_, ?_, ?_⟩
  · show gc_eqv V (if s ≤ e then Z s else X)
    rw [if_pos h0]
    exact h1
  · show gc_eqv (if e + 1 ≤ e then Z (e + 1) else X) X
    rw [if_neg (by omega)]
    exact gc_eqv_refl _
  · intro i i1 i2
    show gc_step a12 a13 a14 i (if i ≤ e then Z i else X) (if i + 1 ≤ e then Z (i + 1) else X)
    by_cases q : i = e
    · rw [q, if_pos (by omega), if_neg (by omega)]
      exact gc_step_eqv h2 g
    · rw [if_pos (by omega), if_pos (by omega)]
      exact h3 i i1 (by omega)
theorem gc_rp_keep {a12 a13 a14 b12 b13 b14 : Nat → Int32} {s e : Nat} {V W : gc_V} (g : gc_keep e a12 a13 a14 b12 b13 b14) (h : gc_rp a12 a13 a14 s e V W) : gc_rp b12 b13 b14 s e V W := by
  obtain ⟨h0, Z, h1, h2, h3⟩ := h
  exact ⟨h0, Z, h1, h2, fun i i1 i2 => gc_step_keep g i2 (h3 i i1 i2)⟩
theorem gc_lg_rp {a12 a13 a14 b12 b13 b14 : Nat → Int32} {s e e' k : Nat} {b0 b1 : Bool} {f0 f1 : Nat → Int32} {V W X : gc_V} (hk : k < 8) (h : gc_rp a12 a13 a14 s e V W) (hW : W.1 k = b0) (hWf : ∀ j, j < 6 → W.2 k j = f0 j) (lg : gc_lg k e e' b0 b1 f0 f1 a12 a13 a14 b12 b13 b14) (hX : X.1 k = b1) (hXf : ∀ j, j < 6 → X.2 k j = f1 j)
    (ho : ∀ i, i < 8 → i ≠ k → X.1 i = W.1 i ∧ (W.1 i = true → ∀ j, j < 6 → X.2 i j = W.2 i j)) : gc_rp b12 b13 b14 s e' V X ∧ e ≤ e' ∧ e' ≤ e + 2 := by
  obtain ⟨kp, lg⟩ := lg
  have h' := gc_rp_keep kp h
  rcases lg with ⟨q1, q2, q3, q4⟩ | ⟨q1, q2, q3⟩
  · subst q1
    refine ⟨gc_rp_r h' (fun i hi => ?_), by omega, by omega⟩
    by_cases z : i = k
    · subst z
      exact ⟨by rw [hX, hW, q2, q3], fun _ j hj => by rw [hXf j hj, hWf j hj, q4 j hj]⟩
    · exact ho i hi z
  · cases b0 with
    | false =>
      cases b1 with
      | false =>
        have : e' = e := q1
        subst this
        refine ⟨gc_rp_r h' (fun i hi => ?_), by omega, by omega⟩
        by_cases z : i = k
        · subst z
          exact ⟨by rw [hX, hW], fun w => absurd (hW.symm.trans w) (by decide)⟩
        · exact ho i hi z
      | true =>
        have : e' = e + 1 := q1
        subst this
        obtain ⟨g1, g2, g3⟩ := q3 rfl
        exact ⟨gc_rp_snoc h' ⟨k, hk, g2, ho, Or.inr ⟨g1, hW, hX, fun j hj => by rw [hXf j hj]; exact g3 j hj⟩⟩, by omega, by omega⟩
    | true =>
      obtain ⟨g1, g2, g3⟩ := q2 rfl
      cases b1 with
      | false =>
        have : e' = e + 1 := q1
        subst this
        exact ⟨gc_rp_snoc h' ⟨k, hk, g2, ho, Or.inl ⟨g1, hW, hX, fun j hj => by rw [hWf j hj]; exact g3 j hj⟩⟩, by omega, by omega⟩
      | true =>
        have : e' = e + 1 + 1 := q1
        subst this
        obtain ⟨k1, k2, k3⟩ := q3 rfl
        have t1 : gc_rp b12 b13 b14 s (e + 1) V (fun i => if i = k then false else W.1 i, W.2) := gc_rp_snoc h' ⟨k, hk, g2, fun i hi z => ⟨by show (if i = k then false else W.1 i) = _; rw [if_neg z], fun _ _ _ => rfl⟩, Or.inl ⟨g1, hW, by show (if k = k then false else W.1 k) = _; rw [if_pos rfl], fun j hj => by rw [hWf j hj]; exact g3 j hj⟩⟩
        refine ⟨gc_rp_snoc t1 ⟨k, hk, k2, fun i hi z => ?_, Or.inr ⟨k1, by show (if k = k then false else W.1 k) = _; rw [if_pos rfl], hX, fun j hj => by rw [hXf j hj]; exact k3 j hj⟩⟩, by omega, by omega⟩
        show X.1 i = (if i = k then false else W.1 i) ∧ ((if i = k then false else W.1 i) = true → _)
        rw [if_neg z]
        exact ho i hi z
def gc_in (k : Nat) (p : Int64) : Prop := gc_st k ≤ p ∧ ¬ gc_st (k + 1) ≤ p
theorem gc_st_mono {a b : Nat} (h : a ≤ b) (hb : b ≤ 8) : gc_st a ≤ gc_st b := (pk_lLE (by omega) (by omega)).mpr (by omega)
theorem gc_in_ne {k i : Nat} {p : Int64} (hk : k < 8) (hi : i < 8) (h : gc_in k p) (z : i ≠ k) : decide (gc_st i ≤ p ∧ ¬ gc_st (i + 1) ≤ p) = false := by
  simp only [decide_eq_false_iff_not]
  intro q
  rcases Nat.lt_or_ge i k with g | g
  · exact q.2 (Int64.le_trans (gc_st_mono (a := i + 1) (b := k) (by omega) (by omega)) h.1)
  · exact h.2 (Int64.le_trans (gc_st_mono (a := k + 1) (b := i) (by omega) (by omega)) q.1)
theorem gc_ch_gr {k i : Nat} {p : Int64} {C C' : List (Int64 × Int32)} (hk : k < 8) (hi : i < 8) (h : gc_in k p) (z : i ≠ k) (ch : gc_ch p C C') : gc_gr i C' = gc_gr i C :=
  ch.2.2 (fun x => decide (gc_st i ≤ x ∧ ¬ gc_st (i + 1) ≤ x)) (gc_in_ne hk hi h z)
theorem gc_plS : ∀ k, k < 8 → ((nI k).toInt64 <<< ((32 : Int32).toInt64 &&& 63)) = gc_st k := by decide +kernel
theorem gc_pl {k : Nat} (v : Int32) (hk : k < 8) : gc_in k (((nI k).toInt64 <<< ((32 : Int32).toInt64 &&& 63)) + v.toInt64 + 2147483648) := by
  rw [gc_plS k hk]
  have t1 : (gc_st k).toInt = ((k * 4294967296 : Nat) : Int) := pk_lT (by omega)
  have t2 : (gc_st (k + 1)).toInt = (((k + 1) * 4294967296 : Nat) : Int) := pk_lT (by omega)
  have v1 := Int32.le_toInt v
  have v2 := Int32.toInt_lt v
  have t3 : (gc_st k + v.toInt64).toInt = ((k * 4294967296 : Nat) : Int) + v.toInt := by
    rw [Int64.toInt_add, t1, Int32.toInt_toInt64]
    apply Int.bmod_eq_of_le <;> omega
  have t5 : (2147483648 : Int64).toInt = 2147483648 := by decide
  have t4 : (gc_st k + v.toInt64 + 2147483648).toInt = ((k * 4294967296 : Nat) : Int) + v.toInt + 2147483648 := by
    rw [Int64.toInt_add, t3, t5]
    apply Int.bmod_eq_of_le <;> omega
  unfold gc_in
  rw [Int64.le_iff_toInt_le, Int64.le_iff_toInt_le, t1, t2, t4]
  omega
theorem gc_placeW {post : Int64 → Prop} {k : Nat} {v : Int32} (hk : k < 8) (h : ∀ p, gc_in k p → post p) : wpX_placeOf post () (nI k) v := h _ (gc_pl v hk)
end
section
theorem gc_ch_rp {k : Nat} {p : Int64} {fl ce : Int32} {C C' : List (Int64 × Int32)} {a12 a13 a14 b12 b13 b14 : Nat → Int32} {e e' : Nat} (hk : k < 8) (hg : ∀ i, i < 8 → i ≠ k → gc_gr i C' = gc_gr i C) (lg : gc_lg k e e' (gc_sw fl ce (gc_gr k C)) (gc_sw fl ce (gc_gr k C')) (gc_fd (gc_gr k C)) (gc_fd (gc_gr k C')) a12 a13 a14 b12 b13 b14) : gc_rp b12 b13 b14 e e' (gc_vw fl ce C) (gc_vw fl ce C') ∧ e ≤ e' ∧ e' ≤ e + 2 :=
  gc_lg_rp (W := gc_vw fl ce C) hk (gc_rp_0 (gc_eqv_refl _)) rfl (fun _ _ => rfl) lg rfl (fun _ _ => rfl) (fun i hi z => by
    show gc_sw fl ce (gc_gr i C') = gc_sw fl ce (gc_gr i C) ∧ (_ → ∀ j, j < 6 → gc_fd (gc_gr i C') j = gc_fd (gc_gr i C) j)
    rw [hg i hi z]
    exact ⟨rfl, fun _ _ _ => rfl⟩)
theorem gc_T_rt {rt fn : Int32} {a1 : Nat → Int64} {a2 a3 a4 a5 a6 a7 a8 : Nat → Int32} {C : List (Int64 × Int32)} (hT : gc_T rt fn a1 a2 a3 a4 a5 a6 a7 a8 C) : vp_in rt 41 ∧ a6 rt.toNatClampNeg = nI (gc_tot C) ∧ gc_tot C ≤ 40 := by
  obtain ⟨L, F, ρ, h, rfl, s, fr, nd, rF, len, rfl, so, po, t40⟩ := hT
  obtain ⟨l40, _, e6, _⟩ := gc_sub_fa s
  rw [nI_clamp (by omega), e6, gc_is_tot _ po]
  exact ⟨vp_in_nI (by omega) (by omega), rfl, t40⟩
theorem gc_insert {post : Int32 → St1 → Prop} {rt fn dp fl ce sb sa : Int32} {a1 : Nat → Int64} {a2 a3 a4 a5 a6 a7 a8 a9 a10 a11 a12 a13 a14 : Nat → Int32} {k e : Nat} {v : Int32} {C : List (Int64 × Int32)} (hk : k < 8) (he : e ≤ 24) (hT : gc_T rt fn a1 a2 a3 a4 a5 a6 a7 a8 C)
    (H : ∀ (r rt' fn' dp' sb' sa' : Int32) (e' : Nat) (b1 : Nat → Int64) (b2 b3 b4 b5 b6 b7 b8 b9 b10 b11 b12 b13 b14 : Nat → Int32) (C' : List (Int64 × Int32)), gc_T rt' fn' b1 b2 b3 b4 b5 b6 b7 b8 C' → gc_rp b12 b13 b14 e e' (gc_vw fl ce C) (gc_vw fl ce C') → e ≤ e' → e' ≤ 24 → post r (rt', fn', dp', fl, ce, sb', sa', nI e', b1, b2, b3, b4, b5, b6, b7, b8, b9, b10, b11, b12, b13, b14)) : wpX_insert post (rt, fn, dp, fl, ce, sb, sa, nI e, a1, a2, a3, a4, a5, a6, a7, a8, a9, a10, a11, a12, a13, a14) (nI k) v := by
  obtain ⟨vr, e6, t40⟩ := gc_T_rt hT
  unfold wpX_insert
  dsimp only
  refine br_f (nI_pos (by omega)) (pk_lt 7 k (fun z => absurd z (by omega)) (fun _ => ⟨vr, ?_⟩))
  rw [e6]
  refine pk_le 40 (gc_tot C) (fun _ => H _ _ _ _ _ _ e _ _ _ _ _ _ _ _ _ _ _ _ _ _ C hT (gc_rp_0 (gc_eqv_refl _)) (by omega) (by omega)) (fun t4 => pk_le e 22 (fun e22 => ?_) (fun _ => H _ _ _ _ _ _ e _ _ _ _ _ _ _ _ _ _ _ _ _ _ C hT (gc_rp_0 (gc_eqv_refl _)) (by omega) (by omega)))
  refine gc_note hk (gc_TQ hT) (fun b10 b11 h10 => ?_)
  dsimp only
  refine gc_placeW hk (fun p hp => ?_)
  refine gc_add hT t4 (fun rt' fn' dp' b1 b2 b3 b4 b5 b6 b7 b8 b9 C' hT' ch tt => ?_)
  dsimp only
  refine gc_log hk (gc_TQ hT') e22 h10 (fun e' c11 b12 b13 b14 lg => ?_)
  dsimp only
  obtain ⟨q1, q2, q3⟩ := gc_ch_rp (p := p) hk (fun i hi z => gc_ch_gr hk hi hp z ch) lg
  exact ⟨(gc_T_rt hT').1, H _ _ _ _ _ _ e' _ _ _ _ _ _ _ _ _ _ _ _ _ _ C' hT' q1 q2 (by omega)⟩
theorem gc_remove {post : Int32 → St1 → Prop} {rt fn dp fl ce sb sa : Int32} {a1 : Nat → Int64} {a2 a3 a4 a5 a6 a7 a8 a9 a10 a11 a12 a13 a14 : Nat → Int32} {k e : Nat} {v : Int32} {C : List (Int64 × Int32)} (hk : k < 8) (he : e ≤ 24) (hT : gc_T rt fn a1 a2 a3 a4 a5 a6 a7 a8 C)
    (H : ∀ (r rt' fn' dp' sb' sa' : Int32) (e' : Nat) (b1 : Nat → Int64) (b2 b3 b4 b5 b6 b7 b8 b9 b10 b11 b12 b13 b14 : Nat → Int32) (C' : List (Int64 × Int32)), gc_T rt' fn' b1 b2 b3 b4 b5 b6 b7 b8 C' → gc_rp b12 b13 b14 e e' (gc_vw fl ce C) (gc_vw fl ce C') → e ≤ e' → e' ≤ 24 → post r (rt', fn', dp', fl, ce, sb', sa', nI e', b1, b2, b3, b4, b5, b6, b7, b8, b9, b10, b11, b12, b13, b14)) : wpX_remove post (rt, fn, dp, fl, ce, sb, sa, nI e, a1, a2, a3, a4, a5, a6, a7, a8, a9, a10, a11, a12, a13, a14) (nI k) v := by
  unfold wpX_remove
  dsimp only
  refine br_f (nI_pos (by omega)) (pk_lt 7 k (fun z => absurd z (by omega)) (fun _ => pk_le e 22 (fun e22 => ?_) (fun _ => H _ _ _ _ _ _ e _ _ _ _ _ _ _ _ _ _ _ _ _ _ C hT (gc_rp_0 (gc_eqv_refl _)) (by omega) (by omega))))
  refine gc_placeW hk (fun p hp => ?_)
  have hQ := gc_TQ hT
  obtain ⟨ρ, h, L, e1, s, _⟩ := hQ
  subst e1
  refine gc_timesOf s (fun r => br_c (fun _ => H _ _ _ _ _ _ e _ _ _ _ _ _ _ _ _ _ _ _ _ _ C hT (gc_rp_0 (gc_eqv_refl _)) (by omega) (by omega)) (fun _ => ?_))
  refine gc_note hk (gc_TQ hT) (fun b10 b11 h10 => ?_)
  dsimp only
  refine gc_drop hT (fun rt' fn' dp' b1 b2 b3 b4 b5 b6 b7 b8 b9 C' hT' ch tt => ?_)
  dsimp only
  refine gc_log hk (gc_TQ hT') e22 h10 (fun e' c11 b12 b13 b14 lg => ?_)
  dsimp only
  obtain ⟨q1, q2, q3⟩ := gc_ch_rp (p := p) hk (fun i hi z => gc_ch_gr hk hi hp z ch) lg
  exact ⟨(gc_T_rt hT').1, H _ _ _ _ _ _ e' _ _ _ _ _ _ _ _ _ _ _ _ _ _ C' hT' q1 q2 (by omega)⟩
theorem gc_rgL {post : Int32 → St1 → Prop} {fl ce sa : Int32} {a10 a11 a12 a13 a14 : Nat → Int32} {k e t f : Nat} {C : List (Int64 × Int32)} (hk : k < 8) (e22 : e ≤ 22) (t40 : t ≤ 40) (f40 : f ≤ 40) (h10 : ∀ j, j < 6 → a10 j = gc_fd (gc_gr k C) j)
    (H : ∀ (r rt' fn' dp' sb' sa' : Int32) (e' : Nat) (b1 : Nat → Int64) (b2 b3 b4 b5 b6 b7 b8 b9 b10 b11 b12 b13 b14 : Nat → Int32) (C' : List (Int64 × Int32)), gc_T rt' fn' b1 b2 b3 b4 b5 b6 b7 b8 C' → gc_rp b12 b13 b14 e e' (gc_vw fl ce C) (gc_vw fl ce C') → e ≤ e' → e' ≤ 24 → post r (rt', fn', dp', fl, ce, sb', sa', nI e', b1, b2, b3, b4, b5, b6, b7, b8, b9, b10, b11, b12, b13, b14)) :
    ∀ (m i fu : Nat) (rt fn dp : Int32) (a1 : Nat → Int64) (a2 a3 a4 a5 a6 a7 a8 a9 : Nat → Int32) (C' : List (Int64 × Int32)), m + i = t → m < fu → gc_T rt fn a1 a2 a3 a4 a5 a6 a7 a8 C' → (∀ i, i < 8 → i ≠ k → gc_gr i C' = gc_gr i C) → gc_tot (C'.filter (gc_bl (gc_st k))) = f → gc_tot (gc_gr k C') = m → wX_removeGroup_60 post (nI k) (nI f) (nI t) fu (nI i) rt fn dp fl ce (gc_bi (gc_sw fl ce (gc_gr k C))) sa (nI e) a1 a2 a3 a4 a5 a6 a7 a8 a9 a10 a11 a12 a13 a14 := by
  intro m
  induction m with
  | zero =>
    intro i fu rt fn dp a1 a2 a3 a4 a5 a6 a7 a8 a9 C' hm hf hT hg hb ht
    obtain ⟨fu, rfl⟩ : ∃ j, fu = j + 1 := ⟨fu - 1, by omega⟩
    refine pk_le t i (fun _ => ?_) (fun z => absurd z (by omega))
    refine gc_log hk (gc_TQ hT) e22 h10 (fun e' c11 b12 b13 b14 lg => ?_)
    dsimp only
    obtain ⟨q1, q2, q3⟩ := gc_ch_rp (p := 0) hk hg lg
    exact H _ _ _ _ _ _ e' _ _ _ _ _ _ _ _ _ _ _ _ _ _ C' hT q1 q2 (by omega)
  | succ m ih =>
    intro i fu rt fn dp a1 a2 a3 a4 a5 a6 a7 a8 a9 C' hm hf hT hg hb ht
    obtain ⟨fu, rfl⟩ : ∃ j, fu = j + 1 := ⟨fu - 1, by omega⟩
    refine pk_le t i (fun z => absurd z (by omega)) (fun _ => ?_)
    obtain ⟨ρ, h, L, e1, s, hh, eC, so, po, tC⟩ := gc_TQ hT
    subst e1
    obtain ⟨sp, R, spR⟩ := gc_split (s := gc_st k) (e := gc_st (k + 1)) so (gc_stle k hk)
    change _ = _ ++ (gc_gr k C' ++ R) at spR
    have tt : gc_tot C' = f + (m + 1 + gc_tot R) := by
      rw [← hb, ← ht]
      conv => lhs; rw [spR]
      rw [gc_tot_app, gc_tot_app]
    have rk := gc_rk_mid (j := 0) spR (by omega)
    rw [hb, Nat.add_zero] at rk
    obtain ⟨c, hc, ec⟩ := gc_rk_mem (l := gc_gr k C') (j := 0) (by omega)
    have hc2 := List.mem_filter.mp hc
    have hin : gc_in k c.1 := by
      have q := hc2.2
      simp only [gc_gk, decide_eq_true_eq] at q
      exact q
    refine gc_rowAt (j := f) s (eC ▸ po) (eC ▸ tC) hh (by rw [← eC]; omega) ?_
    rw [← eC, rk, ← ec]
    refine gc_drop hT (fun rt' fn' dp' b1 b2 b3 b4 b5 b6 b7 b8 b9 D hT' ch td => ?_)
    dsimp only
    have td' := td ⟨c, hc2.1, rfl⟩
    have fb : D.filter (gc_bl (gc_st k)) = C'.filter (gc_bl (gc_st k)) := ch.2.2 (fun x => decide (¬ gc_st k ≤ x)) (by simp only [decide_eq_false_iff_not, Classical.not_not]; exact hin.1)
    have fg : D.filter (fun c => !(gc_gk (gc_st k) (gc_st (k + 1)) c)) = C'.filter (fun c => !(gc_gk (gc_st k) (gc_st (k + 1)) c)) := ch.2.2 (fun x => !(decide (gc_st k ≤ x ∧ ¬ gc_st (k + 1) ≤ x))) (by simp only [Bool.not_eq_false', decide_eq_true_eq]; exact hin)
    have x1 := gc_tot_fil D (gc_gk (gc_st k) (gc_st (k + 1)))
    have x2 := gc_tot_fil C' (gc_gk (gc_st k) (gc_st (k + 1)))
    rw [fg] at x1
    change gc_tot (gc_gr k D) + _ = _ at x1
    change gc_tot (gc_gr k C') + _ = _ at x2
    exact nm_r (nI_1 i) (ih (i + 1) fu rt' fn' dp' b1 b2 b3 b4 b5 b6 b7 b8 b9 D (by omega) (by omega) hT' (fun j hj z => (gc_ch_gr hk hj hin z ch).trans (hg j hj z)) (by rw [fb, hb]) (by omega))
theorem gc_removeGroup {post : Int32 → St1 → Prop} {rt fn dp fl ce sb sa : Int32} {a1 : Nat → Int64} {a2 a3 a4 a5 a6 a7 a8 a9 a10 a11 a12 a13 a14 : Nat → Int32} {k e : Nat} {C : List (Int64 × Int32)} (hk : k < 8) (he : e ≤ 24) (hT : gc_T rt fn a1 a2 a3 a4 a5 a6 a7 a8 C)
    (H : ∀ (r rt' fn' dp' sb' sa' : Int32) (e' : Nat) (b1 : Nat → Int64) (b2 b3 b4 b5 b6 b7 b8 b9 b10 b11 b12 b13 b14 : Nat → Int32) (C' : List (Int64 × Int32)), gc_T rt' fn' b1 b2 b3 b4 b5 b6 b7 b8 C' → gc_rp b12 b13 b14 e e' (gc_vw fl ce C) (gc_vw fl ce C') → e ≤ e' → e' ≤ 24 → post r (rt', fn', dp', fl, ce, sb', sa', nI e', b1, b2, b3, b4, b5, b6, b7, b8, b9, b10, b11, b12, b13, b14)) : wpX_removeGroup post (rt, fn, dp, fl, ce, sb, sa, nI e, a1, a2, a3, a4, a5, a6, a7, a8, a9, a10, a11, a12, a13, a14) (nI k) := by
  unfold wpX_removeGroup
  dsimp only
  refine br_f (nI_pos (by omega)) (pk_lt 7 k (fun z => absurd z (by omega)) (fun _ => pk_le e 22 (fun e22 => ?_) (fun _ => H _ _ _ _ _ _ e _ _ _ _ _ _ _ _ _ _ _ _ _ _ C hT (gc_rp_0 (gc_eqv_refl _)) (by omega) (by omega))))
  refine gc_note hk (gc_TQ hT) (fun b10 b11 h10 => ?_)
  dsimp only
  refine gc_placeSW hk (gc_placeEW hk ?_)
  obtain ⟨ρ, h, L, e1, s, hh, eC, so, po, tC⟩ := gc_TQ hT
  subst e1
  obtain ⟨sp, R, spR⟩ := gc_split (s := gc_st k) (e := gc_st (k + 1)) so (gc_stle k hk)
  have poG : gc_pos (gc_gr k C) := gc_pos_fil po _
  have poB : gc_pos (C.filter (gc_bl (gc_st k))) := gc_pos_fil po _
  change _ = _ ++ gc_gr k C at sp
  change _ = _ ++ (gc_gr k C ++ R) at spR
  have tt : gc_tot C = gc_tot (C.filter (gc_bl (gc_st k))) + (gc_tot (gc_gr k C) + gc_tot R) := by
    conv => lhs; rw [spR]
    rw [gc_tot_app, gc_tot_app]
  have isB := gc_is_tot _ poB
  have isG := gc_is_tot _ poG
  refine gc_rowsB s (eC ▸ so) hh (gc_rowsB s (eC ▸ so) hh ?_)
  rw [← eC]
  refine nm_r (e' := nI (gc_tot (gc_gr k C))) (by rw [sp, gc_is_app, gc_isub, isG]) ?_
  rw [isB]
  exact ⟨gc_tot (gc_gr k C) + 1, gc_rgL hk e22 (by omega) (by omega) h10 H (gc_tot (gc_gr k C)) 0 (gc_tot (gc_gr k C) + 1) (nI ρ) fn dp a1 a2 a3 a4 a5 a6 a7 a8 a9 C (by omega) (by omega) hT (fun _ _ _ => rfl) rfl rfl⟩
end
section
def gc_mix (x3 x4 x5 x6 : Int32) (C : List (Int64 × Int32)) (i : Nat) : gc_V := (fun k => if k < i then gc_sw x3 x4 (gc_gr k C) else gc_sw x5 x6 (gc_gr k C), fun k => gc_fd (gc_gr k C))
theorem gc_limL {post : Int32 → St1 → Prop} {x3 x4 x5 x6 rt fn dp : Int32} {a1 : Nat → Int64} {a2 a3 a4 a5 a6 a7 a8 a9 : Nat → Int32} {C : List (Int64 × Int32)} (hQ : gc_Q rt a1 a2 a3 a4 a5 a6 a7 a8 C)
    (H : ∀ (r sb' sa' : Int32) (e' : Nat) (b10 b11 b12 b13 b14 : Nat → Int32), gc_rp b12 b13 b14 0 e' (gc_vw x5 x6 C) (gc_vw x3 x4 C) → e' ≤ 24 → post r (rt, fn, dp, x3, x4, sb', sa', nI e', a1, a2, a3, a4, a5, a6, a7, a8, a9, b10, b11, b12, b13, b14)) :
    ∀ (m i fu e : Nat) (fl ce sb sa : Int32) (a10 a11 a12 a13 a14 : Nat → Int32), m + i = 8 → m < fu → e ≤ 2 * i → gc_rp a12 a13 a14 0 e (gc_vw x5 x6 C) (gc_mix x3 x4 x5 x6 C i) → (0 < i → fl = x3 ∧ ce = x4) → wX_limits_67 post x3 x4 x5 x6 fu (nI i) rt fn dp fl ce sb sa (nI e) a1 a2 a3 a4 a5 a6 a7 a8 a9 a10 a11 a12 a13 a14 := by
  intro m
  induction m with
  | zero =>
    intro i fu e fl ce sb sa a10 a11 a12 a13 a14 hm hf he rp hi
    obtain ⟨fu, rfl⟩ : ∃ j, fu = j + 1 := ⟨fu - 1, by omega⟩
    obtain ⟨rfl, rfl⟩ := hi (by omega)
    refine pk_le 8 i (fun _ => H _ _ _ e _ _ _ _ _ (gc_rp_r rp (fun k hk => ?_)) (by omega)) (fun z => absurd z (by omega))
    show gc_sw fl ce (gc_gr k C) = (if k < i then gc_sw fl ce (gc_gr k C) else gc_sw x5 x6 (gc_gr k C)) ∧ _
    rw [if_pos (by omega)]
    exact ⟨rfl, fun _ _ _ => rfl⟩
  | succ m ih =>
    intro i fu e fl ce sb sa a10 a11 a12 a13 a14 hm hf he rp hi
    obtain ⟨fu, rfl⟩ : ∃ j, fu = j + 1 := ⟨fu - 1, by omega⟩
    refine pk_le 8 i (fun z => absurd z (by omega)) (fun _ => ?_)
    refine gc_note (k := i) (by omega) hQ (fun b10 b11 h10 => ?_)
    dsimp only
    refine gc_log (k := i) (by omega) hQ (by omega) h10 (fun e' c11 b12 b13 b14 lg => ?_)
    dsimp only
    have q := gc_lg_rp (X := gc_mix x3 x4 x5 x6 C (i + 1)) (by omega) rp (by show (if i < i then _ else _) = _; rw [if_neg (by omega)]) (fun _ _ => rfl) lg (by show (if i < i + 1 then _ else _) = _; rw [if_pos (by omega)]) (fun _ _ => rfl) (fun k hk z => by
      show (if k < i + 1 then gc_sw x3 x4 (gc_gr k C) else gc_sw x5 x6 (gc_gr k C)) = (if k < i then gc_sw x3 x4 (gc_gr k C) else gc_sw x5 x6 (gc_gr k C)) ∧ _
      refine ⟨?_, fun _ _ _ => rfl⟩
      by_cases g : k < i
      · rw [if_pos (by omega), if_pos g]
      · rw [if_neg (by omega), if_neg g])
    obtain ⟨q1, q2, q3⟩ := q
    exact nm_r (nI_1 i) (ih (i + 1) fu e' x3 x4 _ _ _ _ _ _ _ (by omega) (by omega) (by omega) q1 (fun _ => ⟨rfl, rfl⟩))
theorem gc_limits {post : Int32 → St1 → Prop} {rt fn dp fl ce sb sa : Int32} {a1 : Nat → Int64} {a2 a3 a4 a5 a6 a7 a8 a9 a10 a11 a12 a13 a14 : Nat → Int32} {x y e : Nat} {C : List (Int64 × Int32)} (hx : x ≤ 40) (hy : y ≤ 40) (he : e ≤ 24) (hQ : gc_Q rt a1 a2 a3 a4 a5 a6 a7 a8 C) (H1 : e ≠ 0 → post (-1) (rt, fn, dp, fl, ce, sb, sa, nI e, a1, a2, a3, a4, a5, a6, a7, a8, a9, a10, a11, a12, a13, a14))
    (H2 : e = 0 → ∀ (r sb' sa' : Int32) (e' : Nat) (b10 b11 b12 b13 b14 : Nat → Int32), gc_rp b12 b13 b14 0 e' (gc_vw fl ce C) (gc_vw (nI x) (nI y) C) → e' ≤ 24 → post r (rt, fn, dp, nI x, nI y, sb', sa', nI e', a1, a2, a3, a4, a5, a6, a7, a8, a9, b10, b11, b12, b13, b14)) : wpX_limits post (rt, fn, dp, fl, ce, sb, sa, nI e, a1, a2, a3, a4, a5, a6, a7, a8, a9, a10, a11, a12, a13, a14) (nI x) (nI y) := by
  unfold wpX_limits
  dsimp only
  refine pk_le e 0 (fun z => ?_) (fun z => H1 (by omega))
  have ez : e = 0 := by omega
  subst ez
  refine pk_le 0 x (fun _ => pk_le x 40 (fun _ => ?_) (fun z => absurd z (by omega))) (fun z => absurd z (by omega))
  unfold wX_limits_29
  refine pk_le 0 y (fun _ => pk_le y 40 (fun _ => ?_) (fun z => absurd z (by omega))) (fun z => absurd z (by omega))
  unfold wX_limits_50
  refine ⟨9, gc_limL (x3 := nI x) (x4 := nI y) hQ (H2 rfl) 8 0 9 0 _ _ _ _ _ _ _ _ _ (by omega) (by omega) (by omega) (gc_rp_0 (fun k hk => ?_)) (fun z => absurd z (by omega))⟩
  exact ⟨rfl, fun _ _ _ => rfl⟩
theorem gc_take66 {post : Int32 → St1 → Prop} {J : Int32 → (Nat → Int64) → (Nat → Int32) → (Nat → Int32) → (Nat → Int32) → (Nat → Int32) → (Nat → Int32) → (Nat → Int32) → (Nat → Int32) → (Nat → Int32) → (Nat → Int32) → (Nat → Int32) → (Nat → Int32) → (Nat → Int32) → (Nat → Int32) → Prop} {rt fn dp fl ce sb sa en : Int32} {a1 : Nat → Int64} {a2 a3 a4 a5 a6 a7 a8 a9 a10 a11 a12 a13 a14 : Nat → Int32} {n i : Nat} (hn : n ≤ i) (hi : i < 24) (H : ∀ b14 : Nat → Int32, J (nI (i + 1)) a1 a2 a3 a4 a5 a6 a7 a8 a9 a10 a11 a12 a13 b14) : ∃ fu, wX_take_66 post J (nI n) (nI i) rt fn dp fl ce sb sa en fu 0 a1 a2 a3 a4 a5 a6 a7 a8 a9 a10 a11 a12 a13 a14 := by
  refine pk_loop (fun m j x => wX_take_66 post J (nI n) (nI i) rt fn dp fl ce sb sa en m (nI j) a1 a2 a3 a4 a5 a6 a7 a8 a9 a10 a11 a12 a13 x) (fun _ _ => True) 6 0 a14 (by omega) True.intro ?_ ?_
  · intro m x _
    exact pk_le 6 6 (fun _ => nm_r (nI_1 i) (H x)) (fun z => absurd z (by omega))
  · intro m j x hj _ hw
    have e6 : (6 : Int32) = nI 6 := rfl
    have i1 : (6 : Int32) * nI i + nI j = nI (6 * i + j) := by rw [e6, pk_mul, nI_add]
    have i2 : (6 : Int32) * (nI i - nI n) + nI j = nI (6 * (i - n) + j) := by rw [e6, pk_sub hn, pk_mul, nI_add]
    refine pk_le 6 j (fun z => absurd z (by omega)) (fun _ => ?_)
    rw [i1, i2]
    exact ⟨vp_in_nI (by omega) (by omega), vp_in_nI (by omega) (by omega), nm_e (nm_r (nI_1 j) (hw _ True.intro))⟩
theorem gc_take27 {post : Int32 → St1 → Prop} {rt fn dp fl ce sb sa : Int32} {a1 : Nat → Int64} {a2 a3 a4 a5 a6 a7 a8 a9 a10 a11 a12 a13 a14 : Nat → Int32} {n e : Nat} (hn : n ≤ e) (he : e ≤ 24) (H : ∀ b12 b13 b14 : Nat → Int32, post (nI n) (rt, fn, dp, fl, ce, sb, sa, nI (e - n), a1, a2, a3, a4, a5, a6, a7, a8, a9, a10, a11, b12, b13, b14)) : ∃ fu, wX_take_27 post (nI n) rt fn dp fl ce sb sa (nI e) fu (nI n) a1 a2 a3 a4 a5 a6 a7 a8 a9 a10 a11 a12 a13 a14 := by
  refine pk_loop (fun m i (x : (Nat → Int32) × (Nat → Int32) × (Nat → Int32)) => wX_take_27 post (nI n) rt fn dp fl ce sb sa (nI e) m (nI i) a1 a2 a3 a4 a5 a6 a7 a8 a9 a10 a11 (x.1) (x.2.1) (x.2.2)) (fun i _ => n ≤ i) e n (a12, a13, a14) hn (Nat.le_refl _) ?_ ?_
  · intro m x _
    exact pk_le e e (fun _ => nm_r (pk_sub hn) (H _ _ _)) (fun z => absurd z (by omega))
  · intro m i x hi hx hw
    have v1 : vp_in (nI i) 24 := vp_in_nI (by omega) (by omega)
    have v2 : vp_in (nI i - nI n) 24 := by rw [pk_sub hx]; exact vp_in_nI (by omega) (by omega)
    refine pk_le e i (fun z => absurd z (by omega)) (fun _ => ⟨v1, v2, nm_e ⟨v1, v2, nm_e (gc_take66 hx (by omega) (fun b14 => ?_))⟩⟩)
    exact hw (_, _, b14) (by omega)
theorem gc_take {post : Int32 → St1 → Prop} {rt fn dp fl ce sb sa : Int32} {a1 : Nat → Int64} {a2 a3 a4 a5 a6 a7 a8 a9 a10 a11 a12 a13 a14 : Nat → Int32} {c e : Nat} (hc : c ≤ 24) (he : e ≤ 24) (H : ∀ (n : Nat) (b12 b13 b14 : Nat → Int32), n ≤ e → post (nI n) (rt, fn, dp, fl, ce, sb, sa, nI (e - n), a1, a2, a3, a4, a5, a6, a7, a8, a9, a10, a11, b12, b13, b14)) : wpX_take post (rt, fn, dp, fl, ce, sb, sa, nI e, a1, a2, a3, a4, a5, a6, a7, a8, a9, a10, a11, a12, a13, a14) (nI c) := by
  unfold wpX_take
  dsimp only
  exact pk_le 0 c (fun _ => pk_le c e (fun z => gc_take27 z he (fun b12 b13 b14 => H c b12 b13 b14 z)) (fun _ => gc_take27 (Nat.le_refl e) he (fun b12 b13 b14 => H e b12 b13 b14 (Nat.le_refl e)))) (fun z => absurd z (by omega))
theorem gc_now {post : Int32 → St1 → Prop} {rt fn dp fl ce sb sa en : Int32} {a1 : Nat → Int64} {a2 a3 a4 a5 a6 a7 a8 a9 a10 a11 a12 a13 a14 : Nat → Int32} {k j : Nat} {C : List (Int64 × Int32)} (hk : k < 8) (hj : j < 6) (hQ : gc_Q rt a1 a2 a3 a4 a5 a6 a7 a8 C) (H : ∀ (sa' : Int32) (b11 : Nat → Int32), post (gc_fd (gc_gr k C) j) (rt, fn, dp, fl, ce, sb, sa', en, a1, a2, a3, a4, a5, a6, a7, a8, a9, a10, b11, a12, a13, a14)) : wpX_now post (rt, fn, dp, fl, ce, sb, sa, en, a1, a2, a3, a4, a5, a6, a7, a8, a9, a10, a11, a12, a13, a14) (nI k) (nI j) := by
  unfold wpX_now
  dsimp only
  refine br_f (nI_pos (by omega)) (pk_lt 7 k (fun z => absurd z (by omega)) (fun _ => br_f (nI_pos (by omega)) (pk_le j 5 (fun _ => ?_) (fun z => absurd z (by omega)))))
  refine gc_describe hk hQ (fun b11 hb => ?_)
  dsimp only
  rw [nI_clamp (by omega), hb j hj]
  exact ⟨vp_in_nI (by omega) (by omega), H _ _⟩
theorem gc_call {post : St1 → Prop} {rt fn dp fl ce sb sa : Int32} {a1 : Nat → Int64} {a2 a3 a4 a5 a6 a7 a8 a9 a10 a11 a12 a13 a14 : Nat → Int32} {κ e : Nat} {a b : Int32} {C : List (Int64 × Int32)} (hκ : κ < 16) (he : e ≤ 24) (hT : gc_T rt fn a1 a2 a3 a4 a5 a6 a7 a8 C)
    (H : ∀ (rt' fn' dp' fl' ce' sb' sa' : Int32) (e' : Nat) (b1 : Nat → Int64) (b2 b3 b4 b5 b6 b7 b8 b9 b10 b11 b12 b13 b14 : Nat → Int32) (C' : List (Int64 × Int32)), gc_T rt' fn' b1 b2 b3 b4 b5 b6 b7 b8 C' → gc_rp b12 b13 b14 e e' (gc_vw fl ce C) (gc_vw fl' ce' C') → e' ≤ 24 → (κ = 12 ∧ e = 0 → fl' = a &&& 7 ∧ ce' = 1 + (b &&& 7)) → (¬ (κ = 12 ∧ e = 0) → fl' = fl ∧ ce' = ce) → (13 ≤ κ → e' = e) → post (rt', fn', dp', fl', ce', sb', sa', nI e', b1, b2, b3, b4, b5, b6, b7, b8, b9, b10, b11, b12, b13, b14)) : wpL_call post (rt, fn, dp, fl, ce, sb, sa, nI e, a1, a2, a3, a4, a5, a6, a7, a8, a9, a10, a11, a12, a13, a14) (nI κ) a b := by
  have K : ∀ z0 : Int32, wL_call_14 post (nI κ) a b z0 rt fn dp fl ce sb sa (nI e) a1 a2 a3 a4 a5 a6 a7 a8 a9 a10 a11 a12 a13 a14 := by
    intro z0
    obtain ⟨x, hx, ex⟩ := pk_andE a (m := 7) 3 (by decide)
    obtain ⟨y, hy, ey⟩ := pk_andE b (m := 7) 3 (by decide)
    unfold wL_call_14
    rw [ex, ey]
    refine pk_lt 7 κ (fun k7 => pk_lt 10 κ (fun k10 => pk_eq κ 11 (fun k11 => ?_) (fun k11 => pk_eq κ 12 (fun k12 => ?_) (fun k12 => ?_))) (fun k10 => ?_)) (fun k7 => ?_)
    · exact gc_removeGroup (by omega) he hT (fun r rt' fn' dp' sb' sa' e' b1 b2 b3 b4 b5 b6 b7 b8 b9 b10 b11 b12 b13 b14 C' h1 h2 h3 h4 => H _ _ _ _ _ _ _ e' _ _ _ _ _ _ _ _ _ _ _ _ _ _ C' h1 h2 h4 (fun z => absurd z.1 (by omega)) (fun _ => ⟨rfl, rfl⟩) (fun z => absurd z (by omega)))
    · have ey1 : (1 : Int32) + nI y = nI (y + 1) := gc_1p y
      rw [ey1]
      refine gc_limits (by omega) (by omega) he (gc_TQ hT) (fun ez => ?_) (fun ez r sb' sa' e' b10 b11 b12 b13 b14 h1 h2 => ?_)
      · exact H _ _ _ _ _ _ _ e _ _ _ _ _ _ _ _ _ _ _ _ _ _ C hT (gc_rp_0 (gc_eqv_refl _)) he (fun z => absurd z.2 ez) (fun _ => ⟨rfl, rfl⟩) (fun _ => rfl)
      · subst ez
        exact H _ _ _ _ _ _ _ e' _ _ _ _ _ _ _ _ _ _ _ _ _ _ C hT h1 h2 (fun _ => ⟨ex.symm, by rw [ey, ey1]⟩) (fun z => absurd ⟨k12, rfl⟩ z) (fun z => absurd z (by omega))
    · exact H _ _ _ _ _ _ _ e _ _ _ _ _ _ _ _ _ _ _ _ _ _ C hT (gc_rp_0 (gc_eqv_refl _)) he (fun z => absurd z.1 k12) (fun _ => ⟨rfl, rfl⟩) (fun _ => rfl)
    · exact gc_remove (by omega) he hT (fun r rt' fn' dp' sb' sa' e' b1 b2 b3 b4 b5 b6 b7 b8 b9 b10 b11 b12 b13 b14 C' h1 h2 h3 h4 => H _ _ _ _ _ _ _ e' _ _ _ _ _ _ _ _ _ _ _ _ _ _ C' h1 h2 h4 (fun z => absurd z.1 (by omega)) (fun _ => ⟨rfl, rfl⟩) (fun z => absurd z (by omega)))
    · exact gc_insert (by omega) he hT (fun r rt' fn' dp' sb' sa' e' b1 b2 b3 b4 b5 b6 b7 b8 b9 b10 b11 b12 b13 b14 C' h1 h2 h3 h4 => H _ _ _ _ _ _ _ e' _ _ _ _ _ _ _ _ _ _ _ _ _ _ C' h1 h2 h4 (fun z => absurd z.1 (by omega)) (fun _ => ⟨rfl, rfl⟩) (fun z => absurd z (by omega)))
  unfold wpL_call
  dsimp only
  exact br_c (fun _ => K _) (fun _ => K _)
end
section
def gc_bt (x : Int32) (i : Nat) : Bool := x.toBitVec.getLsbD i
theorem gc_bt_ext {x y : Int32} (h : ∀ i, i < 32 → gc_bt x i = gc_bt y i) : x = y := Int32.toBitVec_inj.mp (BitVec.eq_of_getLsbD_eq (fun i hi => h i hi))
theorem gc_bt_and (x y : Int32) (i : Nat) : gc_bt (x &&& y) i = (gc_bt x i && gc_bt y i) := by
  unfold gc_bt
  rw [Int32.toBitVec_and, BitVec.getLsbD_and]
theorem gc_bt_xor (x y : Int32) (i : Nat) : gc_bt (x ^^^ y) i = (gc_bt x i ^^ gc_bt y i) := by
  unfold gc_bt
  rw [Int32.toBitVec_xor, BitVec.getLsbD_xor]
theorem gc_bt_0 (i : Nat) : gc_bt 0 i = false := BitVec.getLsbD_zero
theorem gc_bt_1 : ∀ i, i < 32 → gc_bt 1 i = decide (i = 0) := by decide +kernel
theorem gc_bt_sl : ∀ n, n < 8 → ((nI n &&& 31).toBitVec.smod 32).toNat = n := by decide +kernel
theorem gc_bt_s1 : ∀ n, n < 8 → ∀ i, i < 8 → gc_bt ((1 : Int32) <<< (nI n &&& 31)) i = decide (i = n) := by decide +kernel
theorem gc_bt_shr (n : Nat) (hn : n < 8) (x : Int32) : gc_bt (x >>> (nI n &&& 31)) 0 = gc_bt x n := by
  unfold gc_bt
  rw [Int32.toBitVec_shiftRight]
  show (x.toBitVec.sshiftRight ((nI n &&& 31).toBitVec.smod 32).toNat).getLsbD 0 = _
  rw [gc_bt_sl n hn, BitVec.getLsbD_sshiftRight]
  simp
  omega
theorem gc_bit (x : Int32) {n : Nat} (hn : n < 8) : ((x >>> (nI n &&& 31)) &&& 1) = 0 ↔ gc_bt x n = false := by
  constructor
  · intro h
    have q := congrArg (fun y => gc_bt y 0) h
    simp only [gc_bt_and, gc_bt_0, gc_bt_shr n hn] at q
    rw [gc_bt_1 0 (by omega)] at q
    simpa using q
  · intro h
    apply gc_bt_ext
    intro i hi
    rw [gc_bt_and, gc_bt_0, gc_bt_1 i hi]
    by_cases e : i = 0
    · rw [e, gc_bt_shr n hn, h]
      rfl
    · simp [e]
theorem gc_flip (x : Int32) {n i : Nat} (hn : n < 8) (hi : i < 8) : gc_bt (x ^^^ ((1 : Int32) <<< (nI n &&& 31))) i = (gc_bt x i ^^ decide (i = n)) := by
  rw [gc_bt_xor, gc_bt_s1 n hn i hi]
theorem gc_right {post : Int32 → St1 → Prop} {rt fn dp fl ce sb sa en : Int32} {a1 : Nat → Int64} {a2 a3 a4 a5 a6 a7 a8 a9 a10 a11 a12 a13 a14 : Nat → Int32} {th : Int32} {C : List (Int64 × Int32)} (hQ : gc_Q rt a1 a2 a3 a4 a5 a6 a7 a8 C) (hb : ∀ k, k < 8 → gc_bt th k = gc_sw fl ce (gc_gr k C)) (H : ∀ (sa' : Int32) (b11 : Nat → Int32), post 1 (rt, fn, dp, fl, ce, sb, sa', en, a1, a2, a3, a4, a5, a6, a7, a8, a9, a10, b11, a12, a13, a14)) : wpL_right post (rt, fn, dp, fl, ce, sb, sa, en, a1, a2, a3, a4, a5, a6, a7, a8, a9, a10, a11, a12, a13, a14) th fl ce := by
  unfold wpL_right
  dsimp only
  refine pk_loop (fun n i (x : Int32 × (Nat → Int32)) => wL_right_3 post th fl ce n (nI i) rt fn dp fl ce sb (x.1) en a1 a2 a3 a4 a5 a6 a7 a8 a9 a10 (x.2) a12 a13 a14) (fun _ _ => True) 8 0 (sa, a11) (by omega) True.intro ?_ ?_
  · intro n x _
    exact pk_le 8 8 (fun _ => H _ _) (fun z => absurd z (by omega))
  · intro n i x hi _ hw
    have po : gc_pos (gc_gr i C) := by
      obtain ⟨ρ, h, L, e1, s, hh, eC, so, po, tC⟩ := hQ
      exact gc_pos_fil po _
    have tG : gc_tot (gc_gr i C) ≤ 40 := by
      obtain ⟨ρ, h, L, e1, s, hh, eC, so, po, tC⟩ := hQ
      have := gc_tot_fil C (gc_gk (gc_st i) (gc_st (i + 1)))
      change gc_tot (gc_gr i C) + _ = _ at this
      omega
    have K : ∀ (v : Bool) (sa' : Int32) (b11 : Nat → Int32), gc_bt th i = v → wL_right_46 post (wL_right_3 post th fl ce n) th fl ce (nI i) (gc_bi v) rt fn dp fl ce sb sa' en a1 a2 a3 a4 a5 a6 a7 a8 a9 a10 b11 a12 a13 a14 := by
      intro v sa' b11 hv
      have q := hw (sa', b11) True.intro
      unfold wL_right_46
      cases v with
      | false => exact br_t ((gc_bit th hi).mpr hv) (br_t rfl (nm_r (nI_1 i) q))
      | true => exact br_f (fun z => by rw [(gc_bit th hi).mp z] at hv; exact absurd hv (by decide)) (br_t rfl (nm_r (nI_1 i) q))
    refine pk_le 8 i (fun z => absurd z (by omega)) (fun _ => ?_)
    have hbi := hb i hi
    refine gc_now (j := 0) hi (by omega) hQ (fun sa1 c11 => ?_)
    dsimp only
    by_cases Gz : gc_gr i C = []
    · rw [Gz]
      refine br_t (c := gc_fd [] 0 ≤ 0) (by decide) (K false _ _ ?_)
      rw [hbi, Gz]
      rfl
    · have f0 : gc_fd (gc_gr i C) 0 = gc_is gc_w (gc_gr i C) := by
        unfold gc_fd
        rw [if_neg Gz, if_pos rfl]
      have f4 : gc_fd (gc_gr i C) 4 = gc_is gc_o (gc_gr i C) := by
        unfold gc_fd
        rw [if_neg Gz]
        rfl
      have t1 : 1 ≤ gc_tot (gc_gr i C) := by
        have := gc_len_tot _ po
        have := List.length_pos_iff.mpr Gz
        omega
      have nz : ¬ gc_is gc_w (gc_gr i C) ≤ 0 := by
        rw [gc_is_tot _ po]
        exact nI_nle (by omega) (by omega)
      rw [f0]
      refine br_f nz (br_c (fun g => K false _ _ ?_) (fun g => ?_))
      · rw [hbi]
        unfold gc_sw
        simp only [decide_eq_false_iff_not]
        exact fun z => z.2.1 g
      · refine gc_now (j := 4) hi (by omega) hQ (fun sa2 d11 => ?_)
        dsimp only
        rw [f4]
        refine br_c (fun g2 => K false _ _ ?_) (fun g2 => K true _ _ ?_)
        · rw [hbi]
          unfold gc_sw
          simp only [decide_eq_false_iff_not]
          exact fun z => z.2.2 g2
        · rw [hbi]
          unfold gc_sw
          simp only [decide_eq_true_eq]
          exact ⟨Gz, g, g2⟩
end
section
theorem gc_isEntry {post : Int32 → Prop} {rt fn dp fl ce sb sa : Int32} {a1 : Nat → Int64} {a2 a3 a4 a5 a6 a7 a8 a9 a10 a11 a12 a13 a14 : Nat → Int32} {i e : Nat} (hi : i < e) (he : e ≤ 24) (h : post 1) : wpX_isEntry post (rt, fn, dp, fl, ce, sb, sa, nI e, a1, a2, a3, a4, a5, a6, a7, a8, a9, a10, a11, a12, a13, a14) (nI i) := by
  unfold wpX_isEntry
  dsimp only
  exact br_f (nI_pos (by omega)) (pk_le e i (fun z => absurd z (by omega)) (fun _ => h))
theorem gc_key {post : Int32 → Prop} {rt fn dp fl ce sb sa : Int32} {a1 : Nat → Int64} {a2 a3 a4 a5 a6 a7 a8 a9 a10 a11 a12 a13 a14 : Nat → Int32} {i e : Nat} (hi : i < e) (he : e ≤ 24) (h : post (a13 i)) : wpX_key post (rt, fn, dp, fl, ce, sb, sa, nI e, a1, a2, a3, a4, a5, a6, a7, a8, a9, a10, a11, a12, a13, a14) (nI i) := by
  unfold wpX_key
  dsimp only
  refine gc_isEntry hi he (br_f (by decide) ⟨vp_in_nI (by omega) (by omega), ?_⟩)
  rw [nI_clamp (by omega)]
  exact h
theorem gc_sort {post : Int32 → Prop} {rt fn dp fl ce sb sa : Int32} {a1 : Nat → Int64} {a2 a3 a4 a5 a6 a7 a8 a9 a10 a11 a12 a13 a14 : Nat → Int32} {i e : Nat} (hi : i < e) (he : e ≤ 24) (h : post (a12 i)) : wpX_sort post (rt, fn, dp, fl, ce, sb, sa, nI e, a1, a2, a3, a4, a5, a6, a7, a8, a9, a10, a11, a12, a13, a14) (nI i) := by
  unfold wpX_sort
  dsimp only
  refine gc_isEntry hi he (br_f (by decide) ⟨vp_in_nI (by omega) (by omega), ?_⟩)
  rw [nI_clamp (by omega)]
  exact h
theorem gc_field {post : Int32 → Prop} {rt fn dp fl ce sb sa : Int32} {a1 : Nat → Int64} {a2 a3 a4 a5 a6 a7 a8 a9 a10 a11 a12 a13 a14 : Nat → Int32} {i e j : Nat} (hi : i < e) (he : e ≤ 24) (hj : j < 6) (h : post (a14 (6 * i + j))) : wpX_field post (rt, fn, dp, fl, ce, sb, sa, nI e, a1, a2, a3, a4, a5, a6, a7, a8, a9, a10, a11, a12, a13, a14) (nI i) (nI j) := by
  have e6 : (6 : Int32) = nI 6 := rfl
  have i1 : (6 : Int32) * nI i + nI j = nI (6 * i + j) := by rw [e6, pk_mul, nI_add]
  unfold wpX_field
  dsimp only
  rw [i1, nI_clamp (show 6 * i + j < 2 ^ 31 by omega)]
  exact gc_isEntry hi he (br_f (by decide) (br_f (nI_pos (by omega)) (pk_lt 5 j (fun z => absurd z (by omega)) (fun _ => ⟨vp_in_nI (by omega) (by omega), h⟩))))
def gc_M (w : Nat) (th c u l h d m : Int32) (V : gc_V) : Prop := (∀ k, k < 8 → gc_bt th k = V.1 k) ∧ (V.1 w = true → c = V.2 w 0 ∧ u = V.2 w 1 ∧ l = V.2 w 2 ∧ h = V.2 w 3 ∧ d = V.2 w 4 ∧ m = V.2 w 5)
theorem gc_M_eqv {w : Nat} {th c u l h d m : Int32} {V W : gc_V} (hw : w < 8) (g : gc_eqv V W) (q : gc_M w th c u l h d m V) : gc_M w th c u l h d m W := by
  refine ⟨fun k hk => (q.1 k hk).trans (g k hk).1.symm, fun z => ?_⟩
  have zv : V.1 w = true := by rw [← (g w hw).1]; exact z
  obtain ⟨q0, q1, q2, q3, q4, q5⟩ := q.2 zv
  have e := (g w hw).2 zv
  rw [e 0 (by omega), e 1 (by omega), e 2 (by omega), e 3 (by omega), e 4 (by omega), e 5 (by omega)]
  exact ⟨q0, q1, q2, q3, q4, q5⟩
theorem gc_law359 {post : Int32 → Prop} {L : Nat} {xs : Nat → Int32} {J : Int32 → Int32 → Int32 → Int32 → Int32 → Int32 → Int32 → Int32 → Int32 → Int32 → Int32 → Int32 → Int32 → Int32 → Int32 → Int32 → Int32 → Int32 → Int32 → (Nat → Int64) → (Nat → Int32) → (Nat → Int32) → (Nat → Int32) → (Nat → Int32) → (Nat → Int32) → (Nat → Int32) → (Nat → Int32) → (Nat → Int32) → (Nat → Int32) → (Nat → Int32) → (Nat → Int32) → (Nat → Int32) → (Nat → Int32) → Prop} {rt fn dp fl ce sb sa : Int32} {a1 : Nat → Int64} {a2 a3 a4 a5 a6 a7 a8 a9 a10 a11 a12 a13 a14 : Nat → Int32} {w e kc ks : Nat} {th c u l h d m x13 : Int32} {C : List (Int64 × Int32)} (hw : w < 8) (hQ : gc_Q rt a1 a2 a3 a4 a5 a6 a7 a8 C) (hM : gc_M w th c u l h d m (gc_vw fl ce C))
    (H : ∀ (sa' : Int32) (b11 : Nat → Int32), J th c u l h d m fl ce (nI e) (x13 + 3) rt fn dp fl ce sb sa' (nI e) a1 a2 a3 a4 a5 a6 a7 a8 a9 a10 b11 a12 a13 a14) : wL_law_359 post L xs J (nI w) th c u l h d m fl ce x13 kc ks rt fn dp fl ce sb sa (nI e) a1 a2 a3 a4 a5 a6 a7 a8 a9 a10 a11 a12 a13 a14 := by
  obtain ⟨hb, hf⟩ := hM
  have K : ∀ (z0 sa' : Int32) (b11 : Nat → Int32), (gc_bt th w = true → z0 = 1) → wL_law_447 post L xs J (nI w) th c u l h d m fl ce (nI e) x13 (nI w) z0 kc ks rt fn dp fl ce sb sa' (nI e) a1 a2 a3 a4 a5 a6 a7 a8 a9 a10 b11 a12 a13 a14 := by
    intro z0 sa' b11 hz
    unfold wL_law_447
    cases hv : gc_bt th w with
    | false => exact br_t ((gc_bit th hw).mpr hv) (nm_e (H _ _))
    | true =>
      have hv2 : gc_sw fl ce (gc_gr w C) = true := (hb w hw).symm.trans hv
      refine br_f (fun z => by rw [(gc_bit th hw).mp z] at hv; exact absurd hv (by decide)) (br_f (by rw [hz hv]; decide) ?_)
      refine gc_now (j := 5) hw (by omega) hQ (fun sa2 c11 => ?_)
      dsimp only
      exact br_t (hf hv2).2.2.2.2.2.symm (nm_e (H _ _))
  have N : ∀ (sa' : Int32) (b11 : Nat → Int32), gc_bt th w = false → wL_law_446 post L xs J (nI w) th c u l h d m fl ce (nI e) x13 (nI w) kc ks rt fn dp fl ce sb sa' (nI e) a1 a2 a3 a4 a5 a6 a7 a8 a9 a10 b11 a12 a13 a14 := fun sa' b11 hv => K 0 sa' b11 (fun z => by rw [hv] at z; exact absurd z (by decide))
  have F : ∀ {x y : Int32}, (gc_sw fl ce (gc_gr w C) = true → x = y) → ¬ y = x → gc_bt th w = false := by
    intro x y h1 h2
    cases hv : gc_bt th w with
    | false => rfl
    | true => exact absurd (h1 ((hb w hw).symm.trans hv)).symm h2
  unfold wL_law_359 wpX_pending
  dsimp only
  refine gc_right hQ hb (fun s0 c0 => ?_)
  dsimp only
  refine br_f (by decide) ?_
  refine gc_now (j := 0) hw (by omega) hQ (fun s1 c1 => ?_)
  dsimp only
  refine br_c (fun g0 => ?_) (fun g => N _ _ (F (fun z => (hf z).1) g))
  refine gc_now (j := 1) hw (by omega) hQ (fun s2 c2 => ?_)
  dsimp only
  refine br_c (fun g1 => ?_) (fun g => N _ _ (F (fun z => (hf z).2.1) g))
  refine gc_now (j := 2) hw (by omega) hQ (fun s3 c3 => ?_)
  dsimp only
  refine br_c (fun g2 => ?_) (fun g => N _ _ (F (fun z => (hf z).2.2.1) g))
  refine gc_now (j := 3) hw (by omega) hQ (fun s4 c4 => ?_)
  dsimp only
  refine br_c (fun g3 => ?_) (fun g => N _ _ (F (fun z => (hf z).2.2.2.1) g))
  refine gc_now (j := 4) hw (by omega) hQ (fun s5 c5 => ?_)
  dsimp only
  exact br_c (fun g4 => K 1 _ _ (fun _ => rfl)) (fun g => N _ _ (F (fun z => (hf z).2.2.2.2.1) g))
theorem gc_equal {post : Int32 → Prop} {rt fn dp fl ce sb sa : Int32} {a1 : Nat → Int64} {a2 a3 a4 a5 a6 a7 a8 a9 a10 a11 a12 a13 a14 : Nat → Int32} {i e : Nat} {c u l h d m : Int32} (hi : i < e) (he : e ≤ 24) (e0 : a14 (6 * i + 0) = c) (e1 : a14 (6 * i + 1) = u) (e2 : a14 (6 * i + 2) = l) (e3 : a14 (6 * i + 3) = h) (e4 : a14 (6 * i + 4) = d) (e5 : a14 (6 * i + 5) = m) (H : post 1) : wpL_equal post (rt, fn, dp, fl, ce, sb, sa, nI e, a1, a2, a3, a4, a5, a6, a7, a8, a9, a10, a11, a12, a13, a14) (nI i) c u l h d m := by
  unfold wpL_equal
  dsimp only
  exact gc_field (j := 0) hi he (by omega) (br_t e0 (gc_field (j := 1) hi he (by omega) (br_t e1 (gc_field (j := 2) hi he (by omega) (br_t e2 (gc_field (j := 3) hi he (by omega) (br_t e3 (gc_field (j := 4) hi he (by omega) (br_t e4 (gc_field (j := 5) hi he (by omega) (br_t e5 H)))))))))))
theorem gc_law160 {post : Int32 → Prop} {L : Nat} {xs : Nat → Int32} {J : Int32 → Int32 → Int32 → Int32 → Int32 → Int32 → Int32 → Int32 → Int32 → Int32 → Int32 → Int32 → Int32 → Int32 → Int32 → Int32 → Int32 → Int32 → Int32 → (Nat → Int64) → (Nat → Int32) → (Nat → Int32) → (Nat → Int32) → (Nat → Int32) → (Nat → Int32) → (Nat → Int32) → (Nat → Int32) → (Nat → Int32) → (Nat → Int32) → (Nat → Int32) → (Nat → Int32) → (Nat → Int32) → (Nat → Int32) → Prop} {rt fn dp fl ce sb sa : Int32} {a1 : Nat → Int64} {a2 a3 a4 a5 a6 a7 a8 a9 a10 a11 a12 a13 a14 : Nat → Int32} {w e kc ks : Nat} {x10 x11 x13 : Int32} {Z : Nat → gc_V} {s : Nat} (hw : w < 8) (he : e ≤ 24) (hZ : ∀ i, s ≤ i → i < e → gc_step a12 a13 a14 i (Z i) (Z (i + 1)))
    (H : ∀ th c u l h d m : Int32, gc_M w th c u l h d m (Z e) → wL_law_359 post L xs J (nI w) th c u l h d m x10 x11 x13 kc ks rt fn dp fl ce sb sa (nI e) a1 a2 a3 a4 a5 a6 a7 a8 a9 a10 a11 a12 a13 a14) :
    ∀ (n i fu : Nat) (th c u l h d m : Int32), n + i = e → s ≤ i → n < fu → gc_M w th c u l h d m (Z i) → wL_law_160 post L xs J (nI w) x10 x11 x13 kc ks rt fn dp fl ce sb sa (nI e) a1 a2 a3 a4 a5 a6 a7 a8 a9 a10 a11 a12 a13 a14 fu th c u l h d m (nI i) := by
  intro n
  induction n with
  | zero =>
    intro i fu th c u l h d m hn hs hf hM
    obtain ⟨fu, rfl⟩ : ∃ j, fu = j + 1 := ⟨fu - 1, by omega⟩
    have ei : i = e := by omega
    subst ei
    exact pk_le 24 i (fun _ => H th c u l h d m hM) (fun _ => pk_le i i (fun _ => H th c u l h d m hM) (fun z => absurd z (by omega)))
  | succ n ih =>
    intro i fu th c u l h d m hn hs hf hM
    obtain ⟨fu, rfl⟩ : ∃ j, fu = j + 1 := ⟨fu - 1, by omega⟩
    have hi : i < e := by omega
    obtain ⟨key, hk, e13, ho, hc⟩ := hZ i hs hi
    obtain ⟨hb, hfd⟩ := hM
    have nxt : ∀ th c u l h d m : Int32, gc_M w th c u l h d m (Z (i + 1)) → ∀ x17 : Int32, x17 = nI i + 1 → wL_law_160 post L xs J (nI w) x10 x11 x13 kc ks rt fn dp fl ce sb sa (nI e) a1 a2 a3 a4 a5 a6 a7 a8 a9 a10 a11 a12 a13 a14 fu th c u l h d m x17 := fun th c u l h d m q => nm_r (nI_1 i) (ih (i + 1) fu th c u l h d m (by omega) (by omega) (by omega) q)
    have bits : ∀ v : Bool, (Z i).1 key = v → (Z (i + 1)).1 key = !v → ∀ k, k < 8 → gc_bt (th ^^^ ((1 : Int32) <<< (nI key &&& 31))) k = (Z (i + 1)).1 k := by
      intro v h1 h2 k k8
      rw [gc_flip th hk k8, hb k k8]
      by_cases z : k = key
      · rw [z, h1, h2]
        cases v <;> simp
      · rw [(ho k k8 z).1]
        simp [z]
    have oth : key ≠ w → (Z (i + 1)).1 w = true → c = (Z (i + 1)).2 w 0 ∧ u = (Z (i + 1)).2 w 1 ∧ l = (Z (i + 1)).2 w 2 ∧ h = (Z (i + 1)).2 w 3 ∧ d = (Z (i + 1)).2 w 4 ∧ m = (Z (i + 1)).2 w 5 := by
      intro z g
      obtain ⟨o1, o2⟩ := ho w hw (fun q => z q.symm)
      have g' : (Z i).1 w = true := by rw [← o1]; exact g
      have q := o2 g'
      rw [q 0 (by omega), q 1 (by omega), q 2 (by omega), q 3 (by omega), q 4 (by omega), q 5 (by omega)]
      exact hfd g'
    refine pk_le 24 i (fun z => absurd z (by omega)) (fun _ => ?_)
    unfold wpX_pending
    dsimp only
    refine pk_le e i (fun z => absurd z (by omega)) (fun _ => ?_)
    refine gc_key hi he (gc_sort hi he ?_)
    rw [e13]
    rcases hc with ⟨e12, v1, v2, e14⟩ | ⟨e12, v1, v2, e14⟩
    · rw [e12]
      refine br_f (by decide) ?_
      unfold wL_law_199
      refine br_f (nI_pos (by omega)) (pk_lt 7 key (fun z => absurd z (by omega)) (fun _ => br_t rfl (gc_sort hi he (br_t e12 ?_))))
      unfold wL_law_228
      refine br_f (fun z => by have q := (gc_bit th hk).mp z; rw [hb key hk, v1] at q; exact absurd q (by decide)) ?_
      unfold wL_law_242
      refine br_f (by decide) (nm_e ?_)
      have key1 : wL_law_324 post L xs J (wL_law_160 post L xs J (nI w) x10 x11 x13 kc ks rt fn dp fl ce sb sa (nI e) a1 a2 a3 a4 a5 a6 a7 a8 a9 a10 a11 a12 a13 a14 fu) (nI w) (th ^^^ ((1 : Int32) <<< (nI key &&& 31))) c u l h d m x10 x11 x13 (nI i) (nI key) kc ks rt fn dp fl ce sb sa (nI e) a1 a2 a3 a4 a5 a6 a7 a8 a9 a10 a11 a12 a13 a14 := by
        unfold wL_law_324
        refine pk_eq key w (fun z => ?_) (fun z => nxt _ _ _ _ _ _ _ ⟨bits true v1 (by rw [v2]; rfl), oth z⟩)
        subst z
        obtain ⟨q0, q1, q2, q3, q4, q5⟩ := hfd v1
        refine gc_equal hi he ((e14 0 (by omega)).trans q0.symm) ((e14 1 (by omega)).trans q1.symm) ((e14 2 (by omega)).trans q2.symm) ((e14 3 (by omega)).trans q3.symm) ((e14 4 (by omega)).trans q4.symm) ((e14 5 (by omega)).trans q5.symm) (br_f (by decide) (nxt _ _ _ _ _ _ _ ⟨bits true v1 (by rw [v2]; rfl), fun g => ?_⟩))
        rw [v2] at g
        exact absurd g (by decide)
      exact br_c (fun _ => br_t rfl key1) (fun _ => key1)
    · rw [e12]
      refine br_t rfl ?_
      unfold wL_law_199
      refine br_f (nI_pos (by omega)) (pk_lt 7 key (fun z => absurd z (by omega)) (fun _ => br_f (by decide) ?_))
      unfold wL_law_228
      refine br_t ((gc_bit th hk).mpr (by rw [hb key hk, v1])) ?_
      unfold wL_law_242
      refine br_f (by decide) (nm_e (pk_eq key w (fun z => br_f (by decide) ?_) (fun z => ?_)))
      · subst z
        refine gc_field (j := 0) hi he (by omega) (gc_field (j := 1) hi he (by omega) (gc_field (j := 2) hi he (by omega) (gc_field (j := 3) hi he (by omega) (gc_field (j := 4) hi he (by omega) (gc_field (j := 5) hi he (by omega) ?_)))))
        exact nxt _ _ _ _ _ _ _ ⟨bits false v1 (by rw [v2]; rfl), fun _ => ⟨e14 0 (by omega), e14 1 (by omega), e14 2 (by omega), e14 3 (by omega), e14 4 (by omega), e14 5 (by omega)⟩⟩
      · unfold wL_law_324
        exact pk_eq key w (fun q => absurd q z) (fun _ => nxt _ _ _ _ _ _ _ ⟨bits false v1 (by rw [v2]; rfl), oth z⟩)
end
section
theorem gc_law50 {L : Nat} {xs : Nat → Int32} {w kc ks : Nat} (hL : L ≤ 260) (hw : w < 8) :
    ∀ (n i fu e : Nat) (th c u l h d m rt fn dp fl ce sb sa : Int32) (a1 : Nat → Int64) (a2 a3 a4 a5 a6 a7 a8 a9 a10 a11 a12 a13 a14 : Nat → Int32) (C : List (Int64 × Int32)), L ≤ i + n → n < fu → i ≤ 1000 → e ≤ 24 → gc_T rt fn a1 a2 a3 a4 a5 a6 a7 a8 C → gc_M w th c u l h d m (gc_vw fl ce C) → wL_law_50 (fun r => r = 1) L xs (nI w) kc ks fu th c u l h d m fl ce (nI e) (nI i) rt fn dp fl ce sb sa (nI e) a1 a2 a3 a4 a5 a6 a7 a8 a9 a10 a11 a12 a13 a14 := by
  intro n
  induction n with
  | zero =>
    intro i fu e th c u l h d m rt fn dp fl ce sb sa a1 a2 a3 a4 a5 a6 a7 a8 a9 a10 a11 a12 a13 a14 C hn hf hi he hT hM
    obtain ⟨fu, rfl⟩ : ∃ j, fu = j + 1 := ⟨fu - 1, by omega⟩
    have n3 : nI i + 3 = nI (i + 3) := nI_add i 3
    exact pk_lt L (i + 3) (fun _ => rfl) (fun z => absurd z (by omega)) (hy := n3)
  | succ n ih =>
    intro i fu e th c u l h d m rt fn dp fl ce sb sa a1 a2 a3 a4 a5 a6 a7 a8 a9 a10 a11 a12 a13 a14 C hn hf hi he hT hM
    obtain ⟨fu, rfl⟩ : ∃ j, fu = j + 1 := ⟨fu - 1, by omega⟩
    have n3 : nI i + 3 = nI (i + 3) := nI_add i 3
    have n2 : nI i + 2 = nI (i + 2) := nI_add i 2
    refine pk_lt L (i + 3) (fun _ => rfl) (fun z => ?_) (hy := n3)
    rw [nI_1, n2, nI_clamp (show i < 2 ^ 31 by omega), nI_clamp (show i + 1 < 2 ^ 31 by omega), nI_clamp (show i + 2 < 2 ^ 31 by omega)]
    obtain ⟨κ, hκ, eκ⟩ := pk_andE (xs i) (m := 15) 4 (by decide)
    refine ⟨vp_in_nI (by omega) (by omega), nm_r eκ ⟨vp_in_nI (by omega) (by omega), nm_e ⟨vp_in_nI (by omega) (by omega), nm_e ?_⟩⟩⟩
    generalize xs (i + 1) = a
    generalize xs (i + 2) = b
    have K : ∀ x10 x11 : Int32, (κ = 12 ∧ e = 0 → x10 = a &&& 7 ∧ x11 = 1 + (b &&& 7)) → (¬ (κ = 12 ∧ e = 0) → x10 = fl ∧ x11 = ce) → wL_law_114 (fun r => r = 1) L xs (wL_law_50 (fun r => r = 1) L xs (nI w) kc ks fu) (nI w) th c u l h d m x10 x11 (nI e) (nI i) (nI κ) a b kc ks rt fn dp fl ce sb sa (nI e) a1 a2 a3 a4 a5 a6 a7 a8 a9 a10 a11 a12 a13 a14 := by
      intro x10 x11 k1 k2
      unfold wL_law_114
      refine gc_call hκ he hT (fun rt' fn' dp' fl' ce' sb' sa' e' b1 b2 b3 b4 b5 b6 b7 b8 b9 b10 b11 b12 b13 b14 C' hT' rp he' q1 q2 q3 => ?_)
      dsimp only
      have ef : x10 = fl' ∧ x11 = ce' := by
        by_cases g : κ = 12 ∧ e = 0
        · exact ⟨(k1 g).1.trans (q1 g).1.symm, (k1 g).2.trans (q1 g).2.symm⟩
        · exact ⟨(k2 g).1.trans (q2 g).1.symm, (k2 g).2.trans (q2 g).2.symm⟩
      obtain ⟨rfl, rfl⟩ := ef
      obtain ⟨hle, Z, z1, z2, z3⟩ := rp
      have go : ∀ (g : Nat) (c12 c13 c14 : Nat → Int32), g ≤ 24 → ∀ th c u l h d m : Int32, gc_M w th c u l h d m (gc_vw x10 x11 C') → wL_law_359 (fun r => r = 1) L xs (wL_law_50 (fun r => r = 1) L xs (nI w) kc ks fu) (nI w) th c u l h d m x10 x11 (nI i) kc ks rt' fn' dp' x10 x11 sb' sa' (nI g) b1 b2 b3 b4 b5 b6 b7 b8 b9 b10 b11 c12 c13 c14 := by
        intro g c12 c13 c14 g24 th c u l h d m hM'
        refine gc_law359 hw (gc_TQ hT') hM' (fun sa2 c11 => ?_)
        rw [n3]
        exact ih (i + 3) fu g th c u l h d m _ _ _ _ _ _ _ _ _ _ _ _ _ _ _ _ _ _ _ _ _ C' (by omega) (by omega) (by omega) g24 hT' hM'
      have tk : ∀ cc : Nat, cc ≤ 24 → 13 ≤ κ → wL_law_150 (fun r => r = 1) L xs (wL_law_50 (fun r => r = 1) L xs (nI w) kc ks fu) (nI w) th c u l h d m x10 x11 (nI i) (nI cc) (nI e) kc ks rt' fn' dp' x10 x11 sb' sa' (nI e') b1 b2 b3 b4 b5 b6 b7 b8 b9 b10 b11 b12 b13 b14 := by
        intro cc c24 k13
        have ee := q3 k13
        subst ee
        unfold wL_law_150
        refine gc_take c24 he (fun nn c12 c13 c14 hnn => ?_)
        dsimp only
        refine nm_r (pk_sub hnn) ⟨1, ?_⟩
        exact gc_law160 (s := e' - nn) (Z := fun _ => gc_vw x10 x11 C') hw (by omega) (fun j j1 j2 => absurd j1 (by omega)) (go _ _ _ _ (by omega)) 0 (e' - nn) 1 th c u l h d m (by omega) (by omega) (by omega) (gc_M_eqv hw (gc_eqv_tr z1 z2) hM)
      refine pk_lt κ 13 (fun k13 => ?_) (fun k13 => ?_)
      · exact ⟨e' - e + 1, gc_law160 (s := e) (Z := Z) hw he' z3 (fun th c u l h d m q => go _ _ _ _ he' th c u l h d m (gc_M_eqv hw z2 q)) (e' - e) e (e' - e + 1) th c u l h d m (by omega) (by omega) (by omega) (gc_M_eqv hw z1 hM)⟩
      · refine pk_eq κ 13 (fun _ => ?_) (fun _ => tk 24 (by omega) k13)
        obtain ⟨x, hx, ex⟩ := pk_andE a (m := 3) 2 (by decide)
        rw [ex]
        exact tk x (by omega) k13
    refine pk_eq κ 12 (fun k12 => ?_) (fun k12 => K fl ce (fun z => absurd z.1 k12) (fun _ => ⟨rfl, rfl⟩))
    unfold wpX_pending
    dsimp only
    exact pk_eq e 0 (fun e0 => nm_e (nm_e (K _ _ (fun _ => ⟨rfl, rfl⟩) (fun z => absurd ⟨k12, e0⟩ z)))) (fun e0 => K fl ce (fun z => absurd z.2 e0) (fun _ => ⟨rfl, rfl⟩))
theorem gc_fr_range {a3 : Nat → Int32} (h : ∀ n, 1 ≤ n → n < 41 → a3 n = if n = 40 then 0 else nI (n + 1)) : ∀ m s : Nat, 1 ≤ s → s + m = 41 → gc_fr a3 (nI s) (List.range' s m) := by
  intro m
  induction m with
  | zero => intro s _ _; exact True.intro
  | succ m ih =>
    intro s s1 s2
    rw [List.range'_succ]
    refine ⟨rfl, ?_⟩
    rw [h s s1 (by omega)]
    by_cases e : s = 40
    · have : m = 0 := by omega
      subst this
      exact True.intro
    · rw [if_neg e]
      exact ih (s + 1) (by omega) (by omega)
theorem gc_T0 {a3 : Nat → Int32} (h : ∀ n, 1 ≤ n → n < 41 → a3 n = if n = 40 then 0 else nI (n + 1)) : gc_T 0 1 (fun _ => 0) (fun _ => 0) a3 (fun _ => 0) (fun _ => 0) (fun _ => 0) (fun _ => 0) (fun _ => 0) [] := by
  refine ⟨[], List.range' 1 40, 0, 0, rfl, gc_sub0.mpr ⟨rfl, rfl, by omega, rfl, rfl, rfl, rfl⟩, gc_fr_range h 40 1 (by omega) (by omega), ?_, fun x hx => ?_, ?_, rfl, List.Pairwise.nil, fun c hc => absurd hc (by simp), by show 0 ≤ 40; omega⟩
  · rw [List.nil_append]
    exact List.nodup_range'
  · rw [List.mem_range'_1] at hx
    omega
  · simp
theorem gc_init {post : St1 → Prop} (H : ∀ b3 : Nat → Int32, (∀ n, 1 ≤ n → n < 41 → b3 n = if n = 40 then 0 else nI (n + 1)) → post (0, 1, 0, 1, 40, 0, 0, 0, (fun _ => 0), (fun _ => 0), b3, (fun _ => 0), (fun _ => 0), (fun _ => 0), (fun _ => 0), (fun _ => 0), (fun _ => 0), (fun _ => 0), (fun _ => 0), (fun _ => 0), (fun _ => 0), (fun _ => 0))) : wpX_init post 14 548 (0, 0, 0, 0, 0, 0, 0, 0) := by
  unfold wpX_init
  dsimp only
  refine ⟨by omega, by omega, by omega, by omega, by omega, by omega, by omega, by omega, by omega, by omega, by omega, by omega, by omega, by omega, by omega, by omega, by omega, by omega, by omega, by omega, by omega, by omega, by omega, by omega, by omega, by omega, by omega, by omega, ?_⟩
  refine pk_loop (fun n i x => wX_init_130 post 14 548 14 548 0 0 0 1 40 0 0 0 n (nI i) (fun _ => 0) (fun _ => 0) x (fun _ => 0) (fun _ => 0) (fun _ => 0) (fun _ => 0) (fun _ => 0) (fun _ => 0) (fun _ => 0) (fun _ => 0) (fun _ => 0) (fun _ => 0) (fun _ => 0)) (fun i x => ∀ n, 1 ≤ n → n < i → x n = if n = 40 then 0 else nI (n + 1)) 41 1 (fun _ => 0) (by omega) (fun n n1 n2 => absurd n1 (by omega)) ?_ ?_
  · intro n x hx
    exact pk_le 41 41 (fun _ => H x hx) (fun z => absurd z (by omega))
  · intro n i x hi hx hw
    refine pk_le 41 i (fun z => absurd z (by omega)) (fun _ => ?_)
    rw [nI_clamp (show i < 2 ^ 31 by omega)]
    refine pk_eq i 40 (fun z => ⟨pk_in i 41 (by omega), nm_e (nm_r (nI_1 i) (hw _ (fun k k1 k2 => ?_)))⟩) (fun z => ⟨pk_in i 41 (by omega), nm_e (nm_r (nI_1 i) (hw _ (fun k k1 k2 => ?_)))⟩)
    · by_cases q : k = i
      · rw [q, pk_us, if_pos z]
      · rw [pk_un q]
        exact hx k k1 (by omega)
    · by_cases q : k = i
      · rw [q, pk_us, if_neg z, nI_1]
      · rw [pk_un q]
        exact hx k k1 (by omega)
theorem i_vc (xs : Nat → Int32) (L : Nat) (hL : L ≤ 260) : wpL_law (fun r => r = 1) L xs := by
  unfold wpL_law
  refine ⟨14, 548, by omega, by omega, gc_init (fun b3 h3 => ?_)⟩
  dsimp only
  have K : ∀ r : Int32, ∀ x2 : Int32, x2 = r &&& 7 → ∃ fu50 : Nat, wL_law_50 (fun r => r = 1) L xs x2 (1 + 14) (22 + 548) fu50 0 0 0 0 0 0 0 1 40 0 1 0 1 0 1 40 0 0 0 (fun _ => 0) (fun _ => 0) b3 (fun _ => 0) (fun _ => 0) (fun _ => 0) (fun _ => 0) (fun _ => 0) (fun _ => 0) (fun _ => 0) (fun _ => 0) (fun _ => 0) (fun _ => 0) (fun _ => 0) := by
    intro r
    obtain ⟨w, hw, ew⟩ := pk_andE r (m := 7) 3 (by decide)
    refine nm_r ew ⟨L + 1, gc_law50 hL hw L 1 (L + 1) 0 0 0 0 0 0 0 0 0 1 0 1 40 0 0 _ _ b3 _ _ _ _ _ _ _ _ _ _ _ [] (by omega) (by omega) (by omega) (by omega) (gc_T0 h3) ⟨fun k _ => gc_bt_0 k, fun z => absurd z ?_⟩⟩
    show ¬ gc_sw 1 40 [] = true
    decide
  unfold wpL_cell
  exact pk_le L 0 (fun _ => K _) (fun z => ⟨vp_in_nI (by omega) (by omega), K _⟩)
end

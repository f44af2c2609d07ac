section
/-! trees (node numbers alone), contexts, and the predicates over the arrays -/
abbrev rb_T : Type := Std.DTreeMap.Internal.Impl Unit (fun _ => Unit)
abbrev rb_X : Type := List (Bool × Nat × rb_T)
abbrev rb_A : Type := Nat → Int32
abbrev rb_W : Type := Nat → Int64
def rb_lf : rb_T := Std.DTreeMap.Internal.Impl.leaf
def rb_in (A : rb_T) (n : Nat) (B : rb_T) : rb_T := Std.DTreeMap.Internal.Impl.inner n () () A B
/-- the node n with A on the side d (true: left), B on the other -/
def rb_nd (d : Bool) (A : rb_T) (n : Nat) (B : rb_T) : rb_T := cond d (rb_in A n B) (rb_in B n A)
theorem rb_ind {P : rb_T → Prop} (lf : P rb_lf) (nd : ∀ A n B, P A → P B → P (rb_in A n B)) (t : rb_T) : P t := by
  induction t with
  | leaf => exact lf
  | inner n a b A B iA iB => exact nd A n B iA iB
theorem rb_cs (t : rb_T) : t = rb_lf ∨ ∃ A n B, t = rb_in A n B := by
  cases t with
  | leaf => exact Or.inl rfl
  | inner n a b A B => exact Or.inr ⟨A, n, B, rfl⟩
theorem rb_in_ne {A : rb_T} {n : Nat} {B : rb_T} : rb_in A n B ≠ rb_lf := by
  intro h; unfold rb_in rb_lf at h; cases h
theorem rb_nd_ne {d : Bool} {A : rb_T} {n : Nat} {B : rb_T} : rb_nd d A n B ≠ rb_lf := by
  cases d <;> exact rb_in_ne
theorem rb_nd_t {A : rb_T} {n : Nat} {B : rb_T} : rb_nd true A n B = rb_in A n B := rfl
theorem rb_nd_f {A : rb_T} {n : Nat} {B : rb_T} : rb_nd false A n B = rb_in B n A := rfl
theorem rb_nd_not {d : Bool} {A : rb_T} {n : Nat} {B : rb_T} : rb_nd (!d) A n B = rb_nd d B n A := by cases d <;> rfl
/-- a node seen from the side d -/
theorem rb_in_nd (d : Bool) (t : rb_T) (h : t ≠ rb_lf) : ∃ A n B, t = rb_nd d A n B := by
  rcases rb_cs t with e | ⟨A, n, B, e⟩
  · exact absurd e h
  · cases d
    · exact ⟨B, n, A, e⟩
    · exact ⟨A, n, B, e⟩
def rb_ids : rb_T → List Nat
  | .leaf => []
  | .inner n _ _ A B => rb_ids A ++ n :: rb_ids B
def rb_rt : rb_T → Nat
  | .leaf => 0
  | .inner n _ _ _ _ => n
theorem rb_ids_lf : rb_ids rb_lf = [] := rfl
theorem rb_ids_in {A : rb_T} {n : Nat} {B : rb_T} : rb_ids (rb_in A n B) = rb_ids A ++ n :: rb_ids B := rfl
theorem rb_rt_lf : rb_rt rb_lf = 0 := rfl
theorem rb_rt_in {A : rb_T} {n : Nat} {B : rb_T} : rb_rt (rb_in A n B) = n := rfl
theorem rb_rt_nd {d : Bool} {A : rb_T} {n : Nat} {B : rb_T} : rb_rt (rb_nd d A n B) = n := by cases d <;> rfl
theorem rb_mem_nd {d : Bool} {A : rb_T} {n : Nat} {B : rb_T} {j : Nat} : j ∈ rb_ids (rb_nd d A n B) ↔ j = n ∨ j ∈ rb_ids A ∨ j ∈ rb_ids B := by
  cases d
  · rw [rb_nd_f, rb_ids_in, List.mem_append, List.mem_cons]; grind
  · rw [rb_nd_t, rb_ids_in, List.mem_append, List.mem_cons]; grind
theorem rb_rt_mem (t : rb_T) : rb_rt t = 0 ∨ rb_rt t ∈ rb_ids t := by
  rcases rb_cs t with rfl | ⟨A, n, B, rfl⟩
  · exact Or.inl rfl
  · refine Or.inr ?_
    rw [rb_rt_in, rb_ids_in]; exact List.mem_append.mpr (Or.inr List.mem_cons_self)
theorem rb_ids_nil {t : rb_T} (h : rb_ids t = []) : t = rb_lf := by
  rcases rb_cs t with e | ⟨A, n, B, rfl⟩
  · exact e
  · rw [rb_ids_in] at h; simp at h
def rb_sm (v : rb_A) : List Nat → Int64
  | [] => 0
  | n :: L => (v n).toInt64 + rb_sm v L
theorem rb_sm_app (v : rb_A) : ∀ X Y : List Nat, rb_sm v (X ++ Y) = rb_sm v X + rb_sm v Y
  | [], Y => by simp [rb_sm]
  | x :: X, Y => by rw [List.cons_append, rb_sm, rb_sm, rb_sm_app v X Y, Int64.add_assoc]
theorem rb_sm_fr {v v' : rb_A} : ∀ X : List Nat, (∀ j, j ∈ X → v' j = v j) → rb_sm v' X = rb_sm v X
  | [], _ => rfl
  | x :: X, h => by
    rw [rb_sm, rb_sm, h x List.mem_cons_self, rb_sm_fr X (fun j hj => h j (List.mem_cons_of_mem x hj))]
def rb_pl : rb_X → rb_T → rb_T
  | [], t => t
  | (d, n, s) :: c, t => rb_pl c (rb_nd d t n s)
theorem rb_pl_app : ∀ (c c' : rb_X) (t : rb_T), rb_pl (c ++ c') t = rb_pl c' (rb_pl c t)
  | [], _, _ => rfl
  | (d, n, s) :: c, c', t => rb_pl_app c c' (rb_nd d t n s)
def rb_top : rb_X → Nat
  | [] => 0
  | f :: _ => f.2.1
def rb_cl : rb_X → List Nat
  | [] => []
  | (d, n, s) :: c => rb_cl c ++ cond d [] (rb_ids s ++ [n])
def rb_cr : rb_X → List Nat
  | [] => []
  | (d, n, s) :: c => cond d (n :: rb_ids s) [] ++ rb_cr c
def rb_ci : rb_X → List Nat
  | [] => []
  | (_, n, s) :: c => n :: (rb_ids s ++ rb_ci c)
theorem rb_ids_pl : ∀ (c : rb_X) (t : rb_T), rb_ids (rb_pl c t) = rb_cl c ++ (rb_ids t ++ rb_cr c)
  | [], t => by simp [rb_pl, rb_cl, rb_cr]
  | (d, n, s) :: c, t => by
    rw [rb_pl, rb_ids_pl c]
    cases d <;> simp [rb_cl, rb_cr, rb_nd_t, rb_nd_f, rb_ids_in]
theorem rb_perm : ∀ (c : rb_X) (t : rb_T), (rb_ids (rb_pl c t)).Perm (rb_ids t ++ rb_ci c)
  | [], t => by rw [rb_pl, rb_ci, List.append_nil]
  | (d, n, s) :: c, t => by
    rw [rb_pl]
    refine (rb_perm c _).trans ?_
    rw [rb_ci]
    cases d
    · rw [rb_nd_f, rb_ids_in]
      exact List.perm_iff_count.mpr (fun x => by simp only [List.count_append, List.count_cons]; omega)
    · rw [rb_nd_t, rb_ids_in]
      exact List.perm_iff_count.mpr (fun x => by simp only [List.count_append, List.count_cons]; omega)
def rb_O (L : List Nat) : Prop := L.Nodup ∧ ∀ j, j ∈ L → 0 < j ∧ j < 49
theorem rb_O_perm {L L' : List Nat} (h : L.Perm L') : rb_O L ↔ rb_O L' := by
  unfold rb_O
  rw [h.nodup_iff]
  constructor
  · exact fun g => ⟨g.1, fun j hj => g.2 j (h.mem_iff.mpr hj)⟩
  · exact fun g => ⟨g.1, fun j hj => g.2 j (h.mem_iff.mp hj)⟩
theorem rb_O_pl {c : rb_X} {t : rb_T} : rb_O (rb_ids (rb_pl c t)) ↔ rb_O (rb_ids t ++ rb_ci c) := rb_O_perm (rb_perm c t)
theorem rb_nd_perm {d : Bool} {A : rb_T} {n : Nat} {B : rb_T} : (rb_ids (rb_nd d A n B)).Perm (n :: (rb_ids A ++ rb_ids B)) := by
  cases d
  · rw [rb_nd_f, rb_ids_in]
    exact List.perm_iff_count.mpr (fun x => by simp only [List.count_append, List.count_cons]; omega)
  · rw [rb_nd_t, rb_ids_in]
    exact List.perm_iff_count.mpr (fun x => by simp only [List.count_append, List.count_cons]; omega)
theorem rb_len_nd {d : Bool} {A : rb_T} {n : Nat} {B : rb_T} : (rb_ids (rb_nd d A n B)).length = (rb_ids A).length + (rb_ids B).length + 1 := by
  rw [rb_nd_perm.length_eq]; simp
theorem rb_sm_nd {d : Bool} {v : rb_A} {A : rb_T} {n : Nat} {B : rb_T} : rb_sm v (rb_ids (rb_nd d A n B)) = rb_sm v (rb_ids A) + rb_sm v (rb_ids B) + (v n).toInt64 := by
  cases d
  · rw [rb_nd_f, rb_ids_in, rb_sm_app, rb_sm]; grind
  · rw [rb_nd_t, rb_ids_in, rb_sm_app, rb_sm]; grind
theorem rb_ci_len : ∀ c : rb_X, c.length ≤ (rb_ci c).length
  | [] => Nat.le_refl _
  | (_, n, s) :: c => by
    have := rb_ci_len c
    rw [rb_ci]; simp; omega
theorem rb_top_mem (c : rb_X) : c = [] ∨ rb_top c ∈ rb_ci c := by
  cases c with
  | nil => exact Or.inl rfl
  | cons f c => exact Or.inr List.mem_cons_self
/-- links -/
def rb_L (l r a : rb_A) : rb_T → Nat → Prop
  | .leaf, _ => True
  | .inner n _ _ A B, p => l n = nI (rb_rt A) ∧ r n = nI (rb_rt B) ∧ a n = nI p ∧ rb_L l r a A n ∧ rb_L l r a B n
def rb_C (R : Int32) (l r a : rb_A) : rb_X → Nat → Prop
  | [], h => R = nI h
  | (d, n, s) :: c, h => (cond d l r) n = nI h ∧ (cond d r l) n = nI (rb_rt s) ∧ a n = nI (rb_top c) ∧ rb_L l r a s n ∧ rb_C R l r a c n
def rb_G (R : Int32) (l r a : rb_A) (T : rb_T) : Prop := rb_L l r a T 0 ∧ R = nI (rb_rt T)
/-- sizes and sums -/
def rb_Z (v z : rb_A) (w : rb_W) : rb_T → Prop
  | .leaf => True
  | .inner n _ _ A B => z n = nI ((rb_ids A).length + (rb_ids B).length + 1) ∧ w n = rb_sm v (rb_ids A) + rb_sm v (rb_ids B) + (v n).toInt64 ∧ rb_Z v z w A ∧ rb_Z v z w B
def rb_Y (v z : rb_A) (w : rb_W) : rb_X → Prop
  | [] => True
  | (_, _, s) :: c => rb_Z v z w s ∧ rb_Y v z w c
def rb_S (v z : rb_A) (w : rb_W) : rb_X → Nat → Int64 → Prop
  | [], _, _ => True
  | (_, n, s) :: c, K, V => z n = nI (K + (rb_ids s).length + 1) ∧ w n = V + rb_sm v (rb_ids s) + (v n).toInt64 ∧ rb_S v z w c (K + (rb_ids s).length + 1) (V + rb_sm v (rb_ids s) + (v n).toInt64)
/-- colours: black height -/
def rb_B (q : rb_A) : rb_T → Nat → Prop
  | .leaf, h => h = 0
  | .inner n _ _ A B, h => (q n = 0 ∧ ∃ i, h = i + 1 ∧ rb_B q A i ∧ rb_B q B i) ∨ (q n = 1 ∧ q (rb_rt A) = 0 ∧ q (rb_rt B) = 0 ∧ rb_B q A h ∧ rb_B q B h)
def rb_K (q : rb_A) : rb_X → Nat → Prop
  | [], _ => True
  | (_, n, s) :: c, h => rb_B q s h ∧ ((q n = 0 ∧ rb_K q c (h + 1)) ∨ (q n = 1 ∧ q (rb_rt s) = 0 ∧ c ≠ [] ∧ q (rb_top c) = 0 ∧ rb_K q c h))
/-- the chain of free nodes -/
def rb_F (a : rb_A) : List Nat → Int32 → Prop
  | [], x => x = 0
  | f :: F, x => x = nI f ∧ rb_F a F (a f)
section
variable {R : Int32} {l r a q v z : rb_A} {w : rb_W} {d : Bool} {A B : rb_T} {n p h : Nat}
theorem rb_L_in : rb_L l r a (rb_in A n B) p ↔ l n = nI (rb_rt A) ∧ r n = nI (rb_rt B) ∧ a n = nI p ∧ rb_L l r a A n ∧ rb_L l r a B n := Iff.rfl
theorem rb_L_lf : rb_L l r a rb_lf p := True.intro
theorem rb_L_nd : rb_L l r a (rb_nd d A n B) p ↔ (cond d l r) n = nI (rb_rt A) ∧ (cond d r l) n = nI (rb_rt B) ∧ a n = nI p ∧ rb_L l r a A n ∧ rb_L l r a B n := by
  cases d
  · exact ⟨fun ⟨x1, x2, x3, x4, x5⟩ => ⟨x2, x1, x3, x5, x4⟩, fun ⟨x1, x2, x3, x4, x5⟩ => ⟨x2, x1, x3, x5, x4⟩⟩
  · exact Iff.rfl
theorem rb_C_cons {s : rb_T} {c : rb_X} : rb_C R l r a ((d, n, s) :: c) h ↔ (cond d l r) n = nI h ∧ (cond d r l) n = nI (rb_rt s) ∧ a n = nI (rb_top c) ∧ rb_L l r a s n ∧ rb_C R l r a c n := Iff.rfl
theorem rb_G_pl : ∀ (c : rb_X) (t : rb_T), rb_G R l r a (rb_pl c t) ↔ rb_L l r a t (rb_top c) ∧ rb_C R l r a c (rb_rt t)
  | [], t => Iff.rfl
  | (d, n, s) :: c, t => by
    rw [rb_pl, rb_G_pl c, rb_L_nd, rb_rt_nd, rb_C_cons]
    exact ⟨fun ⟨⟨x1, x2, x3, x4, x5⟩, x6⟩ => ⟨x4, x1, x2, x3, x5, x6⟩, fun ⟨x4, x1, x2, x3, x5, x6⟩ => ⟨⟨x1, x2, x3, x4, x5⟩, x6⟩⟩
theorem rb_Z_in : rb_Z v z w (rb_in A n B) ↔ z n = nI ((rb_ids A).length + (rb_ids B).length + 1) ∧ w n = rb_sm v (rb_ids A) + rb_sm v (rb_ids B) + (v n).toInt64 ∧ rb_Z v z w A ∧ rb_Z v z w B := Iff.rfl
theorem rb_Z_nd : rb_Z v z w (rb_nd d A n B) ↔ z n = nI ((rb_ids A).length + (rb_ids B).length + 1) ∧ w n = rb_sm v (rb_ids A) + rb_sm v (rb_ids B) + (v n).toInt64 ∧ rb_Z v z w A ∧ rb_Z v z w B := by
  cases d
  · rw [rb_nd_f, rb_Z_in, Nat.add_comm (rb_ids B).length, Int64.add_comm (rb_sm v (rb_ids B))]
    exact ⟨fun ⟨x1, x2, x3, x4⟩ => ⟨x1, x2, x4, x3⟩, fun ⟨x1, x2, x3, x4⟩ => ⟨x1, x2, x4, x3⟩⟩
  · exact Iff.rfl
theorem rb_Z_pl : ∀ (c : rb_X) (t : rb_T), rb_Z v z w (rb_pl c t) ↔ rb_Z v z w t ∧ rb_Y v z w c ∧ rb_S v z w c (rb_ids t).length (rb_sm v (rb_ids t))
  | [], t => ⟨fun h => ⟨h, True.intro, True.intro⟩, fun h => h.1⟩
  | (d, n, s) :: c, t => by
    rw [rb_pl, rb_Z_pl c, rb_Z_nd, rb_len_nd, rb_sm_nd, rb_Y, rb_S]
    exact ⟨fun ⟨⟨x1, x2, x3, x4⟩, x5, x6⟩ => ⟨x3, ⟨x4, x5⟩, x1, x2, x6⟩, fun ⟨x3, ⟨x4, x5⟩, x1, x2, x6⟩ => ⟨⟨x1, x2, x3, x4⟩, x5, x6⟩⟩
theorem rb_Z_rt (t : rb_T) (h0 : z 0 = 0) (w0 : w 0 = 0) (hZ : rb_Z v z w t) : z (rb_rt t) = nI (rb_ids t).length ∧ w (rb_rt t) = rb_sm v (rb_ids t) := by
  rcases rb_cs t with rfl | ⟨A, n, B, rfl⟩
  · exact ⟨h0, w0⟩
  · have e := rb_len_nd (d := true) (A := A) (n := n) (B := B)
    have e' := rb_sm_nd (d := true) (v := v) (A := A) (n := n) (B := B)
    rw [rb_nd_t] at e e'
    rw [e, e']
    exact ⟨hZ.1, hZ.2.1⟩
theorem rb_B_in : rb_B q (rb_in A n B) h ↔ (q n = 0 ∧ ∃ i, h = i + 1 ∧ rb_B q A i ∧ rb_B q B i) ∨ (q n = 1 ∧ q (rb_rt A) = 0 ∧ q (rb_rt B) = 0 ∧ rb_B q A h ∧ rb_B q B h) := Iff.rfl
theorem rb_B_lf : rb_B q rb_lf h ↔ h = 0 := Iff.rfl
theorem rb_B_nd : rb_B q (rb_nd d A n B) h ↔ (q n = 0 ∧ ∃ i, h = i + 1 ∧ rb_B q A i ∧ rb_B q B i) ∨ (q n = 1 ∧ q (rb_rt A) = 0 ∧ q (rb_rt B) = 0 ∧ rb_B q A h ∧ rb_B q B h) := by
  cases d
  · rw [rb_nd_f, rb_B_in]
    constructor
    · rintro (⟨x0, i, x1, x2, x3⟩ | ⟨x0, x1, x2, x3, x4⟩)
      · exact Or.inl ⟨x0, i, x1, x3, x2⟩
      · exact Or.inr ⟨x0, x2, x1, x4, x3⟩
    · rintro (⟨x0, i, x1, x2, x3⟩ | ⟨x0, x1, x2, x3, x4⟩)
      · exact Or.inl ⟨x0, i, x1, x3, x2⟩
      · exact Or.inr ⟨x0, x2, x1, x4, x3⟩
  · exact Iff.rfl
theorem rb_01 : ¬ (1 : Int32) = 0 := by decide
theorem rb_B_up : ∀ (c : rb_X) (t : rb_T) (h : Nat), rb_B q t h → rb_K q c h → (q (rb_rt t) = 0 ∨ (c ≠ [] ∧ q (rb_top c) = 0)) → ∃ H, rb_B q (rb_pl c t) H ∧ q (rb_rt (rb_pl c t)) = 0
  | [], t, h, hB, _, ho => by
    rcases ho with ho | ho
    · exact ⟨h, hB, ho⟩
    · exact absurd rfl ho.1
  | (d, n, s) :: c, t, h, hB, hK, ho => by
    rw [rb_pl]
    rcases hK with ⟨hs, (⟨hn, hc⟩ | ⟨hn, hs0, hc0, ht, hc⟩)⟩
    · refine rb_B_up c _ (h + 1) (rb_B_nd.mpr (Or.inl ⟨hn, h, rfl, hB, hs⟩)) hc (Or.inl ?_)
      rw [rb_rt_nd]; exact hn
    · have h1 : q (rb_rt t) = 0 := by
        rcases ho with ho | ho
        · exact ho
        · exact absurd (hn.symm.trans ho.2) rb_01
      exact rb_B_up c _ h (rb_B_nd.mpr (Or.inr ⟨hn, h1, hs0, hB, hs⟩)) hc (Or.inr ⟨hc0, ht⟩)
theorem rb_B_dn : ∀ (c : rb_X) (t : rb_T) (H : Nat), rb_B q (rb_pl c t) H → q (rb_rt (rb_pl c t)) = 0 → ∃ h, rb_B q t h ∧ rb_K q c h ∧ (q (rb_rt t) = 0 ∨ (c ≠ [] ∧ q (rb_top c) = 0))
  | [], t, H, hB, ho => ⟨H, hB, True.intro, Or.inl ho⟩
  | (d, n, s) :: c, t, H, hB, ho => by
    obtain ⟨h, hB, hK, ho⟩ := rb_B_dn c (rb_nd d t n s) H hB ho
    rw [rb_rt_nd] at ho
    rcases rb_B_nd.mp hB with ⟨hn, i, rfl, h1, h2⟩ | ⟨hn, h1, h2, h3, h4⟩
    · exact ⟨i, h1, ⟨h2, Or.inl ⟨hn, hK⟩⟩, Or.inr ⟨List.cons_ne_nil _ _, hn⟩⟩
    · rcases ho with ho | ho
      · exact absurd (hn.symm.trans ho) rb_01
      · exact ⟨h, h3, ⟨h4, Or.inr ⟨hn, h2, ho.1, ho.2, hK⟩⟩, Or.inl h1⟩
theorem rb_zip (n : Nat) (T : rb_T) : n ∈ rb_ids T → ∃ c A B, T = rb_pl c (rb_in A n B) := by
  induction T using rb_ind with
  | lf => intro h; cases h
  | nd A m B iA iB =>
    intro h
    rw [rb_ids_in, List.mem_append, List.mem_cons] at h
    rcases h with h | h | h
    · obtain ⟨c, A', B', e⟩ := iA h
      exact ⟨c ++ [(true, m, B)], A', B', by rw [rb_pl_app, ← e]; rfl⟩
    · subst h; exact ⟨[], A, B, rfl⟩
    · obtain ⟨c, A', B', e⟩ := iB h
      exact ⟨c ++ [(false, m, A)], A', B', by rw [rb_pl_app, ← e]; rfl⟩
end
section
variable {R : Int32} {l r a q v z l' r' a' q' v' z' : rb_A} {w w' : rb_W}
theorem rb_L_fr (t : rb_T) : ∀ (p : Nat), rb_L l r a t p → (∀ j, j ∈ rb_ids t → l' j = l j ∧ r' j = r j ∧ a' j = a j) → rb_L l' r' a' t p := by
  induction t using rb_ind with
  | lf => exact fun _ _ _ => True.intro
  | nd A n B iA iB =>
    intro p hL hf
    obtain ⟨h1, h2, h3, h4, h5⟩ := rb_L_in.mp hL
    have hn := hf n (by rw [rb_ids_in]; simp)
    refine rb_L_in.mpr ⟨hn.1.trans h1, hn.2.1.trans h2, hn.2.2.trans h3, iA n h4 (fun j hj => hf j ?_), iB n h5 (fun j hj => hf j ?_)⟩
    · rw [rb_ids_in]; simp [hj]
    · rw [rb_ids_in]; simp [hj]
/-- the same below another parent -/
theorem rb_L_re {t : rb_T} {p p' : Nat} (hL : rb_L l r a t p) (hd : (rb_ids t).Nodup) (hf : ∀ j, j ∈ rb_ids t → l' j = l j ∧ r' j = r j ∧ (j ≠ rb_rt t → a' j = a j)) (hp : t ≠ rb_lf → a' (rb_rt t) = nI p') : rb_L l' r' a' t p' := by
  rcases rb_cs t with rfl | ⟨A, n, B, rfl⟩
  · exact True.intro
  · obtain ⟨h1, h2, h3, h4, h5⟩ := rb_L_in.mp hL
    rw [rb_ids_in] at hf hd
    rw [rb_rt_in] at hf hp
    have hn := hf n (by simp)
    have hd' := List.nodup_append.mp hd
    have hd2 := List.nodup_cons.mp hd'.2.1
    refine rb_L_in.mpr ⟨hn.1.trans h1, hn.2.1.trans h2, hp rb_in_ne, rb_L_fr A n h4 (fun j hj => ?_), rb_L_fr B n h5 (fun j hj => ?_)⟩
    · have g := hf j (by simp [hj])
      exact ⟨g.1, g.2.1, g.2.2 (hd'.2.2 j hj n List.mem_cons_self)⟩
    · have g := hf j (by simp [hj])
      exact ⟨g.1, g.2.1, g.2.2 (fun e => hd2.1 (e ▸ hj))⟩
theorem rb_C_fr : ∀ (c : rb_X) (h : Nat), rb_C R l r a c h → (∀ j, j ∈ rb_ci c → l' j = l j ∧ r' j = r j ∧ a' j = a j) → rb_C R l' r' a' c h
  | [], h, hC, _ => hC
  | (d, n, s) :: c, h, hC, hf => by
    obtain ⟨h1, h2, h3, h4, h5⟩ := rb_C_cons.mp hC
    rw [rb_ci] at hf
    have hn := hf n List.mem_cons_self
    refine rb_C_cons.mpr ⟨?_, ?_, hn.2.2.trans h3, rb_L_fr s n h4 (fun j hj => hf j (by simp [hj])), rb_C_fr c n h5 (fun j hj => hf j (by simp [hj]))⟩
    · cases d
      · exact hn.2.1.trans h1
      · exact hn.1.trans h1
    · cases d
      · exact hn.1.trans h2
      · exact hn.2.1.trans h2
theorem rb_Z_fr (t : rb_T) : rb_Z v z w t → (∀ j, j ∈ rb_ids t → v' j = v j ∧ z' j = z j ∧ w' j = w j) → rb_Z v' z' w' t := by
  induction t using rb_ind with
  | lf => exact fun _ _ => True.intro
  | nd A n B iA iB =>
    intro hZ hf
    obtain ⟨h1, h2, h3, h4⟩ := rb_Z_in.mp hZ
    rw [rb_ids_in] at hf
    have hn := hf n (by simp)
    have hA : ∀ j, j ∈ rb_ids A → v' j = v j ∧ z' j = z j ∧ w' j = w j := fun j hj => hf j (by simp [hj])
    have hB : ∀ j, j ∈ rb_ids B → v' j = v j ∧ z' j = z j ∧ w' j = w j := fun j hj => hf j (by simp [hj])
    refine rb_Z_in.mpr ⟨hn.2.1.trans h1, ?_, iA h3 hA, iB h4 hB⟩
    rw [hn.2.2, hn.1, rb_sm_fr (rb_ids A) (fun j hj => (hA j hj).1), rb_sm_fr (rb_ids B) (fun j hj => (hB j hj).1)]
    exact h2
theorem rb_Y_fr : ∀ (c : rb_X), rb_Y v z w c → (∀ j, j ∈ rb_ci c → v' j = v j ∧ z' j = z j ∧ w' j = w j) → rb_Y v' z' w' c
  | [], _, _ => True.intro
  | (d, n, s) :: c, h, hf => by
    rw [rb_ci] at hf
    exact ⟨rb_Z_fr s h.1 (fun j hj => hf j (by simp [hj])), rb_Y_fr c h.2 (fun j hj => hf j (by simp [hj]))⟩
theorem rb_S_fr : ∀ (c : rb_X) (K : Nat) (V : Int64), rb_S v z w c K V → (∀ j, j ∈ rb_ci c → v' j = v j ∧ z' j = z j ∧ w' j = w j) → rb_S v' z' w' c K V
  | [], _, _, _, _ => True.intro
  | (d, n, s) :: c, K, V, h, hf => by
    rw [rb_ci] at hf
    obtain ⟨h1, h2, h3⟩ := h
    have hn := hf n List.mem_cons_self
    have es := rb_sm_fr (v := v) (v' := v') (rb_ids s) (fun j hj => (hf j (by simp [hj])).1)
    refine ⟨hn.2.1.trans h1, ?_, ?_⟩
    · rw [hn.2.2, hn.1, es]; exact h2
    · rw [hn.1, es]; exact rb_S_fr c _ _ h3 (fun j hj => hf j (by simp [hj]))
theorem rb_B_fr (t : rb_T) : ∀ (h : Nat), rb_B q t h → (∀ j, j ∈ rb_ids t → q' j = q j) → q' 0 = q 0 → rb_B q' t h := by
  induction t using rb_ind with
  | lf => exact fun _ h _ _ => h
  | nd A n B iA iB =>
    intro h hB hf h0
    rw [rb_ids_in] at hf
    have hn := hf n (by simp)
    have hA : ∀ j, j ∈ rb_ids A → q' j = q j := fun j hj => hf j (by simp [hj])
    have hB' : ∀ j, j ∈ rb_ids B → q' j = q j := fun j hj => hf j (by simp [hj])
    have rA : q' (rb_rt A) = q (rb_rt A) := by
      rcases rb_rt_mem A with e | e
      · rw [e]; exact h0
      · exact hA _ e
    have rB : q' (rb_rt B) = q (rb_rt B) := by
      rcases rb_rt_mem B with e | e
      · rw [e]; exact h0
      · exact hB' _ e
    rcases rb_B_in.mp hB with ⟨x0, i, x1, x2, x3⟩ | ⟨x0, x1, x2, x3, x4⟩
    · exact rb_B_in.mpr (Or.inl ⟨hn.trans x0, i, x1, iA i x2 hA h0, iB i x3 hB' h0⟩)
    · exact rb_B_in.mpr (Or.inr ⟨hn.trans x0, rA.trans x1, rB.trans x2, iA h x3 hA h0, iB h x4 hB' h0⟩)
theorem rb_q_rt (t : rb_T) (hf : ∀ j, j ∈ rb_ids t → q' j = q j) (h0 : q' 0 = q 0) : q' (rb_rt t) = q (rb_rt t) := by
  rcases rb_rt_mem t with e | e
  · rw [e]; exact h0
  · exact hf _ e
theorem rb_q_top (c : rb_X) (hf : ∀ j, j ∈ rb_ci c → q' j = q j) (h0 : q' 0 = q 0) : q' (rb_top c) = q (rb_top c) := by
  rcases rb_top_mem c with rfl | e
  · exact h0
  · exact hf _ e
theorem rb_K_fr : ∀ (c : rb_X) (h : Nat), rb_K q c h → (∀ j, j ∈ rb_ci c → q' j = q j) → q' 0 = q 0 → rb_K q' c h
  | [], _, _, _, _ => True.intro
  | (d, n, s) :: c, h, hK, hf, h0 => by
    rw [rb_ci] at hf
    have hn := hf n List.mem_cons_self
    have hs : ∀ j, j ∈ rb_ids s → q' j = q j := fun j hj => hf j (by simp [hj])
    have hc : ∀ j, j ∈ rb_ci c → q' j = q j := fun j hj => hf j (by simp [hj])
    obtain ⟨k1, k2⟩ := hK
    refine ⟨rb_B_fr s h k1 hs h0, ?_⟩
    rcases k2 with ⟨x0, x1⟩ | ⟨x0, x1, x2, x3, x4⟩
    · exact Or.inl ⟨hn.trans x0, rb_K_fr c _ x1 hc h0⟩
    · exact Or.inr ⟨hn.trans x0, (rb_q_rt s hs h0).trans x1, x2, (rb_q_top c hc h0).trans x3, rb_K_fr c _ x4 hc h0⟩
theorem rb_F_fr : ∀ (F : List Nat) (x : Int32), rb_F a F x → (∀ j, j ∈ F → a' j = a j) → rb_F a' F x
  | [], _, h, _ => h
  | f :: F, x, h, hf => by
    refine ⟨h.1, ?_⟩
    rw [hf f List.mem_cons_self]
    exact rb_F_fr F _ h.2 (fun j hj => hf j (List.mem_cons_of_mem f hj))
end
end
section
/-! numbers, and the readers from the root down -/
theorem rb_clm {n : Nat} (h : n < 49) : (nI n).toNatClampNeg = n := nI_clamp (by omega)
theorem rb_vi {n : Nat} (h : n < 49) : vp_in (nI n) 49 := vp_in_nI h (by omega)
theorem rb_eqn {m n : Nat} (hm : m < 49) (hn : n < 49) : nI m = nI n ↔ m = n := nI_eq (by omega) (by omega)
theorem rb_eq0 {n : Nat} (h : n < 49) : nI n = 0 ↔ n = 0 := rb_eqn (n := 0) h (by omega)
theorem rb_le0 {n : Nat} (h : n < 49) : nI n ≤ 0 ↔ n = 0 := (nI_leI (b := 0) (by omega) (by omega)).trans (by omega)
theorem rb_z0 : nI 0 ≤ 0 := (rb_le0 (by decide)).mpr rfl
theorem rb_48 {i : Nat} (h : i < 2 ^ 31) : (48 : Int32) ≤ nI i ↔ 48 ≤ i := nI_leI (a := 48) (by omega) h
theorem rb_rt_lt {t : rb_T} (h : ∀ j, j ∈ rb_ids t → 0 < j ∧ j < 49) : rb_rt t < 49 := by
  rcases rb_rt_mem t with e | e
  · omega
  · exact (h _ e).2
theorem rb_rt_0 {t : rb_T} (h : ∀ j, j ∈ rb_ids t → 0 < j ∧ j < 49) : rb_rt t = 0 ↔ t = rb_lf := by
  rcases rb_cs t with rfl | ⟨A, n, B, rfl⟩
  · exact ⟨fun _ => rfl, fun _ => rfl⟩
  · have := h n (by rw [rb_ids_in]; simp)
    rw [rb_rt_in]
    exact ⟨fun e => absurd e (by omega), fun e => absurd e rb_in_ne⟩
section
variable {R fr cu : Int32} {l r a q k v z : rb_A} {w : rb_W}
theorem rb_find7 {post : Int32 → Prop} {x : Int32} (t : rb_T) : ∀ (p f i : Nat), rb_L l r a t p → (∀ j, j ∈ rb_ids t → 0 < j ∧ j < 49) → (rb_ids t).Pairwise (fun i j => k i < k j) → i + (rb_ids t).length ≤ 48 → (rb_ids t).length < f → (∀ L1 m L2, rb_ids t = L1 ++ m :: L2 → k m = x → post (nI m)) → ((∀ j, j ∈ rb_ids t → k j ≠ x) → post 0) → wX_find_7 post x R fr cu l r a q k v z w f (nI (rb_rt t)) (nI i) := by
  induction t using rb_ind with
  | lf =>
    intro p f i _ _ _ hi hf _ h0
    obtain ⟨f, rfl⟩ : ∃ g, f = g + 1 := ⟨f - 1, by omega⟩
    have hz : post 0 := h0 (by intro j hj; cases hj)
    exact br_c (fun _ => hz) (fun _ => br_t rb_z0 hz)
  | nd A n B iA iB =>
    intro p f i hL hr hs hi hf hp h0
    obtain ⟨f, rfl⟩ : ∃ g, f = g + 1 := ⟨f - 1, by omega⟩
    obtain ⟨l1, l2, l3, l4, l5⟩ := rb_L_in.mp hL
    rw [rb_ids_in] at hr hs hi hf hp h0
    obtain ⟨s1, s2, s3⟩ := List.pairwise_append.mp hs
    obtain ⟨s4, s5⟩ := List.pairwise_cons.mp s2
    have hN := hr n (by simp)
    simp only [List.length_append, List.length_cons] at hi hf
    rw [rb_rt_in]
    refine br_f (by rw [rb_48 (by omega)]; omega) (br_f (by rw [rb_le0 hN.2]; omega) ⟨rb_vi hN.2, ?_⟩)
    rw [rb_clm hN.2]
    refine br_c (fun e => hp (rb_ids A) n (rb_ids B) rfl e) (fun e => ⟨rb_vi hN.2, br_c (fun g => ⟨rb_vi hN.2, nm_r l2 (nm_r (nI_1 i) ?_)⟩) (fun g => ⟨rb_vi hN.2, nm_r l1 (nm_r (nI_1 i) ?_)⟩)⟩)
    · refine iB n f (i + 1) l5 (fun j hj => hr j (by simp [hj])) s5 (by omega) (by omega) ?_ ?_
      · intro L1 m L2 e1 e2
        exact hp (rb_ids A ++ n :: L1) m L2 (by rw [e1]; simp) e2
      · intro hno
        refine h0 (fun j hj => ?_)
        rcases List.mem_append.mp hj with hj | hj
        · exact Int32.ne_of_lt (Int32.lt_of_lt_of_le (s3 j hj n List.mem_cons_self) g)
        · rcases List.mem_cons.mp hj with rfl | hj
          · exact e
          · exact hno j hj
    · refine iA n f (i + 1) l4 (fun j hj => hr j (by simp [hj])) s1 (by omega) (by omega) ?_ ?_
      · intro L1 m L2 e1 e2
        exact hp L1 m (L2 ++ n :: rb_ids B) (by rw [e1]; simp) e2
      · intro hno
        have g' := Int32.not_le.mp g
        refine h0 (fun j hj => ?_)
        rcases List.mem_append.mp hj with hj | hj
        · exact hno j hj
        · rcases List.mem_cons.mp hj with rfl | hj
          · exact e
          · exact (Int32.ne_of_lt (Int32.lt_trans g' (s4 j hj))).symm
theorem rb_below10 {post : Int32 → Prop} {x : Int32} (t : rb_T) : ∀ (p f i y : Nat), rb_L l r a t p → rb_Z v z w t → z 0 = 0 → w 0 = 0 → (∀ j, j ∈ rb_ids t → 0 < j ∧ j < 49) → (rb_ids t).Pairwise (fun i j => k i < k j) → i + (rb_ids t).length ≤ 48 → (rb_ids t).length < f → (∀ L1 L2, rb_ids t = L1 ++ L2 → (∀ j, j ∈ L1 → k j < x) → (∀ j, j ∈ L2 → x ≤ k j) → post (nI (y + L1.length))) → wX_below_10 post x R fr cu l r a q k v z w f (nI y) (nI (rb_rt t)) (nI i) := by
  induction t using rb_ind with
  | lf =>
    intro p f i y _ _ _ _ _ _ hi hf hp
    obtain ⟨f, rfl⟩ : ∃ g, f = g + 1 := ⟨f - 1, by omega⟩
    have hz : post (nI y) := hp [] [] rfl (by intro j hj; cases hj) (by intro j hj; cases hj)
    exact br_c (fun _ => hz) (fun _ => br_t rb_z0 hz)
  | nd A n B iA iB =>
    intro p f i y hL hZ z0 w0 hr hs hi hf hp
    obtain ⟨f, rfl⟩ : ∃ g, f = g + 1 := ⟨f - 1, by omega⟩
    obtain ⟨l1, l2, l3, l4, l5⟩ := rb_L_in.mp hL
    obtain ⟨_, _, z3, z4⟩ := rb_Z_in.mp hZ
    rw [rb_ids_in] at hr hs hi hf hp
    obtain ⟨s1, s2, s3⟩ := List.pairwise_append.mp hs
    obtain ⟨s4, s5⟩ := List.pairwise_cons.mp s2
    have hN := hr n (by simp)
    have hA : ∀ j, j ∈ rb_ids A → 0 < j ∧ j < 49 := fun j hj => hr j (by simp [hj])
    have hB : ∀ j, j ∈ rb_ids B → 0 < j ∧ j < 49 := fun j hj => hr j (by simp [hj])
    simp only [List.length_append, List.length_cons] at hi hf
    rw [rb_rt_in]
    refine br_f (by rw [rb_48 (by omega)]; omega) (br_f (by rw [rb_le0 hN.2]; omega) ⟨rb_vi hN.2, ?_⟩)
    rw [rb_clm hN.2]
    refine br_c (fun g => ⟨rb_vi hN.2, nm_r l1 (nm_r (nI_1 i) ?_)⟩) (fun g => ⟨rb_vi hN.2, ?_⟩)
    · refine iA n f (i + 1) y l4 z3 z0 w0 hA s1 (by omega) (by omega) ?_
      intro L1 L2 e1 e2 e3
      refine hp L1 (L2 ++ n :: rb_ids B) (by rw [e1]; simp) e2 (fun j hj => ?_)
      rcases List.mem_append.mp hj with hj | hj
      · exact e3 j hj
      · rcases List.mem_cons.mp hj with rfl | hj
        · exact g
        · exact Int32.le_of_lt (Int32.lt_of_le_of_lt g (s4 j hj))
    · have hA49 := rb_rt_lt hA
      rw [l1, rb_clm hA49, (rb_Z_rt A z0 w0 z3).1]
      refine ⟨rb_vi hA49, nm_r (e' := nI (y + (rb_ids A).length + 1)) (by rw [nI_1, nI_add, Nat.add_assoc]) ⟨rb_vi hN.2, nm_r l2 (nm_r (nI_1 i) ?_)⟩⟩
      refine iB n f (i + 1) (y + (rb_ids A).length + 1) l5 z4 z0 w0 hB s5 (by omega) (by omega) ?_
      intro L1 L2 e1 e2 e3
      have g' := Int32.not_le.mp g
      have hh := hp (rb_ids A ++ n :: L1) L2 (by rw [e1]; simp) (fun j hj => ?_) e3
      · have ee : y + (rb_ids A ++ n :: L1).length = y + (rb_ids A).length + 1 + L1.length := by simp; omega
        rw [ee] at hh; exact hh
      · rcases List.mem_append.mp hj with hj | hj
        · exact Int32.lt_trans (s3 j hj n List.mem_cons_self) g'
        · rcases List.mem_cons.mp hj with rfl | hj
          · exact g'
          · exact e2 j hj
theorem rb_sumBelow11 {post : Int64 → Prop} {x : Int32} (t : rb_T) : ∀ (p f i : Nat) (y : Int64), rb_L l r a t p → rb_Z v z w t → z 0 = 0 → w 0 = 0 → (∀ j, j ∈ rb_ids t → 0 < j ∧ j < 49) → (rb_ids t).Pairwise (fun i j => k i < k j) → i + (rb_ids t).length ≤ 48 → (rb_ids t).length < f → (∀ L1 L2, rb_ids t = L1 ++ L2 → (∀ j, j ∈ L1 → k j < x) → (∀ j, j ∈ L2 → x ≤ k j) → post (y + rb_sm v L1)) → wX_sumBelow_11 post x R fr cu l r a q k v z w f y (nI (rb_rt t)) (nI i) := by
  induction t using rb_ind with
  | lf =>
    intro p f i y _ _ _ _ _ _ hi hf hp
    obtain ⟨f, rfl⟩ : ∃ g, f = g + 1 := ⟨f - 1, by omega⟩
    have hz : post y := by
      have h := hp [] [] rfl (by intro j hj; cases hj) (by intro j hj; cases hj)
      rw [rb_sm, Int64.add_zero] at h; exact h
    exact br_c (fun _ => hz) (fun _ => br_t rb_z0 hz)
  | nd A n B iA iB =>
    intro p f i y hL hZ z0 w0 hr hs hi hf hp
    obtain ⟨f, rfl⟩ : ∃ g, f = g + 1 := ⟨f - 1, by omega⟩
    obtain ⟨l1, l2, l3, l4, l5⟩ := rb_L_in.mp hL
    obtain ⟨_, _, z3, z4⟩ := rb_Z_in.mp hZ
    rw [rb_ids_in] at hr hs hi hf hp
    obtain ⟨s1, s2, s3⟩ := List.pairwise_append.mp hs
    obtain ⟨s4, s5⟩ := List.pairwise_cons.mp s2
    have hN := hr n (by simp)
    have hA : ∀ j, j ∈ rb_ids A → 0 < j ∧ j < 49 := fun j hj => hr j (by simp [hj])
    have hB : ∀ j, j ∈ rb_ids B → 0 < j ∧ j < 49 := fun j hj => hr j (by simp [hj])
    simp only [List.length_append, List.length_cons] at hi hf
    rw [rb_rt_in]
    refine br_f (by rw [rb_48 (by omega)]; omega) (br_f (by rw [rb_le0 hN.2]; omega) ⟨rb_vi hN.2, ?_⟩)
    rw [rb_clm hN.2]
    refine br_c (fun g => ⟨rb_vi hN.2, nm_r l1 (nm_r (nI_1 i) ?_)⟩) (fun g => ⟨rb_vi hN.2, ?_⟩)
    · refine iA n f (i + 1) y l4 z3 z0 w0 hA s1 (by omega) (by omega) ?_
      intro L1 L2 e1 e2 e3
      refine hp L1 (L2 ++ n :: rb_ids B) (by rw [e1]; simp) e2 (fun j hj => ?_)
      rcases List.mem_append.mp hj with hj | hj
      · exact e3 j hj
      · rcases List.mem_cons.mp hj with rfl | hj
        · exact g
        · exact Int32.le_of_lt (Int32.lt_of_le_of_lt g (s4 j hj))
    · have hA49 := rb_rt_lt hA
      rw [l1, rb_clm hA49, (rb_Z_rt A z0 w0 z3).2]
      refine ⟨rb_vi hA49, rb_vi hN.2, nm_e ⟨rb_vi hN.2, nm_r l2 (nm_r (nI_1 i) ?_)⟩⟩
      refine iB n f (i + 1) _ l5 z4 z0 w0 hB s5 (by omega) (by omega) ?_
      intro L1 L2 e1 e2 e3
      have g' := Int32.not_le.mp g
      have hh := hp (rb_ids A ++ n :: L1) L2 (by rw [e1]; simp) (fun j hj => ?_) e3
      · have ee : y + rb_sm v (rb_ids A ++ n :: L1) = y + (rb_sm v (rb_ids A) + (v n).toInt64) + rb_sm v L1 := by
          rw [rb_sm_app, rb_sm]; grind
        rw [ee] at hh; exact hh
      · rcases List.mem_append.mp hj with hj | hj
        · exact Int32.lt_trans (s3 j hj n List.mem_cons_self) g'
        · rcases List.mem_cons.mp hj with rfl | hj
          · exact g'
          · exact e2 j hj
theorem rb_ceil10 {post : Int32 → Prop} {x : Int32} (t : rb_T) : ∀ (p f i y : Nat), rb_L l r a t p → (∀ j, j ∈ rb_ids t → 0 < j ∧ j < 49) → (rb_ids t).Pairwise (fun i j => k i < k j) → i + (rb_ids t).length ≤ 48 → (rb_ids t).length < f → (∀ L1 L2, rb_ids t = L1 ++ L2 → (∀ j, j ∈ L1 → k j < x) → (∀ j, j ∈ L2 → x ≤ k j) → post (nI (L2.headD y))) → wX_ceiling_10 post x R fr cu l r a q k v z w f (nI y) (nI (rb_rt t)) (nI i) := by
  induction t using rb_ind with
  | lf =>
    intro p f i y _ _ _ hi hf hp
    obtain ⟨f, rfl⟩ : ∃ g, f = g + 1 := ⟨f - 1, by omega⟩
    have hz : post (nI y) := hp [] [] rfl (by intro j hj; cases hj) (by intro j hj; cases hj)
    exact br_c (fun _ => hz) (fun _ => br_t rb_z0 hz)
  | nd A n B iA iB =>
    intro p f i y hL hr hs hi hf hp
    obtain ⟨f, rfl⟩ : ∃ g, f = g + 1 := ⟨f - 1, by omega⟩
    obtain ⟨l1, l2, l3, l4, l5⟩ := rb_L_in.mp hL
    rw [rb_ids_in] at hr hs hi hf hp
    obtain ⟨s1, s2, s3⟩ := List.pairwise_append.mp hs
    obtain ⟨s4, s5⟩ := List.pairwise_cons.mp s2
    have hN := hr n (by simp)
    simp only [List.length_append, List.length_cons] at hi hf
    rw [rb_rt_in]
    refine br_f (by rw [rb_48 (by omega)]; omega) (br_f (by rw [rb_le0 hN.2]; omega) ⟨rb_vi hN.2, ?_⟩)
    rw [rb_clm hN.2]
    refine br_c (fun g => ⟨rb_vi hN.2, nm_r l2 (nm_r (nI_1 i) ?_)⟩) (fun g => ⟨rb_vi hN.2, nm_r l1 (nm_r (nI_1 i) ?_)⟩)
    · refine iB n f (i + 1) y l5 (fun j hj => hr j (by simp [hj])) s5 (by omega) (by omega) ?_
      intro L1 L2 e1 e2 e3
      refine hp (rb_ids A ++ n :: L1) L2 (by rw [e1]; simp) (fun j hj => ?_) e3
      rcases List.mem_append.mp hj with hj | hj
      · exact Int32.lt_trans (s3 j hj n List.mem_cons_self) g
      · rcases List.mem_cons.mp hj with rfl | hj
        · exact g
        · exact e2 j hj
    · have g' := Int32.not_lt.mp g
      refine iA n f (i + 1) n l4 (fun j hj => hr j (by simp [hj])) s1 (by omega) (by omega) ?_
      intro L1 L2 e1 e2 e3
      have hh := hp L1 (L2 ++ n :: rb_ids B) (by rw [e1]; simp) e2 (fun j hj => ?_)
      · cases L2 with
        | nil => exact hh
        | cons m L2 => exact hh
      · rcases List.mem_append.mp hj with hj | hj
        · exact e3 j hj
        · rcases List.mem_cons.mp hj with rfl | hj
          · exact g'
          · exact Int32.le_of_lt (Int32.lt_of_le_of_lt g' (s4 j hj))
theorem rb_nodeAt10 {post : Int32 → Prop} (t : rb_T) : ∀ (p f i y : Nat), rb_L l r a t p → rb_Z v z w t → z 0 = 0 → w 0 = 0 → (∀ j, j ∈ rb_ids t → 0 < j ∧ j < 49) → y < 2 ^ 31 → i + (rb_ids t).length ≤ 48 → (rb_ids t).length < f → post (nI ((rb_ids t)[y]?.getD 0)) → wX_nodeAt_10 post R fr cu l r a q k v z w f (nI y) (nI (rb_rt t)) (nI i) := by
  induction t using rb_ind with
  | lf =>
    intro p f i y _ _ _ _ _ _ hi hf hp
    obtain ⟨f, rfl⟩ : ∃ g, f = g + 1 := ⟨f - 1, by omega⟩
    have hz : post 0 := hp
    exact br_c (fun _ => hz) (fun _ => br_t rb_z0 hz)
  | nd A n B iA iB =>
    intro p f i y hL hZ z0 w0 hr hy hi hf hp
    obtain ⟨f, rfl⟩ : ∃ g, f = g + 1 := ⟨f - 1, by omega⟩
    obtain ⟨l1, l2, l3, l4, l5⟩ := rb_L_in.mp hL
    obtain ⟨_, _, z3, z4⟩ := rb_Z_in.mp hZ
    rw [rb_ids_in] at hr hi hf hp
    have hN := hr n (by simp)
    have hA : ∀ j, j ∈ rb_ids A → 0 < j ∧ j < 49 := fun j hj => hr j (by simp [hj])
    have hB : ∀ j, j ∈ rb_ids B → 0 < j ∧ j < 49 := fun j hj => hr j (by simp [hj])
    have hA49 := rb_rt_lt hA
    simp only [List.length_append, List.length_cons] at hi hf
    rw [rb_rt_in]
    refine br_f (by rw [rb_48 (by omega)]; omega) (br_f (by rw [rb_le0 hN.2]; omega) ⟨rb_vi hN.2, ?_⟩)
    rw [rb_clm hN.2, l1, rb_clm hA49, (rb_Z_rt A z0 w0 z3).1]
    refine ⟨rb_vi hA49, nm_e ?_⟩
    have hAl : (rb_ids A).length < 2 ^ 31 := by omega
    refine br_c (fun e => ?_) (fun e => ?_)
    · rw [nI_eq hy hAl] at e
      rw [e, List.getElem?_append_right (Nat.le_refl _), Nat.sub_self] at hp
      exact hp
    · rw [nI_eq hy hAl] at e
      refine br_c (fun g => ?_) (fun g => ?_)
      · rw [nI_leI hAl hy] at g
        have es : nI y - (nI (rb_ids A).length + 1) = nI (y - ((rb_ids A).length + 1)) := by
          obtain ⟨d, rfl⟩ : ∃ d, y = d + ((rb_ids A).length + 1) := ⟨y - ((rb_ids A).length + 1), by omega⟩
          rw [nI_1, ← nI_add, Nat.add_sub_cancel, Int32.add_sub_cancel]
        refine nm_r es ⟨rb_vi hN.2, nm_r l2 (nm_r (nI_1 i) ?_)⟩
        refine iB n f (i + 1) _ l5 z4 z0 w0 hB (by omega) (by omega) (by omega) ?_
        obtain ⟨d, rfl⟩ : ∃ d, y = (rb_ids A).length + (d + 1) := ⟨y - ((rb_ids A).length + 1), by omega⟩
        rw [List.getElem?_append_right (by omega), Nat.add_sub_cancel_left, List.getElem?_cons_succ] at hp
        have ed : (rb_ids A).length + (d + 1) - ((rb_ids A).length + 1) = d := by omega
        rw [ed]; exact hp
      · rw [nI_leI hAl hy] at g
        refine ⟨rb_vi hN.2, nm_e (nm_r (nI_1 i) ?_)⟩
        refine iA n f (i + 1) y l4 z3 z0 w0 hA hy (by omega) (by omega) ?_
        rw [List.getElem?_append_left (by omega)] at hp
        exact hp
theorem rb_first4 {post : Int32 → Prop} (t : rb_T) : ∀ (p f i : Nat), t ≠ rb_lf → rb_L l r a t p → (∀ j, j ∈ rb_ids t → 0 < j ∧ j < 49) → i + (rb_ids t).length ≤ 48 → (rb_ids t).length < f → post (nI ((rb_ids t).headD 0)) → wX_first_4 post R fr cu l r a q k v z w f (nI (rb_rt t)) (nI i) := by
  induction t using rb_ind with
  | lf => intro p f i h; exact absurd rfl h
  | nd A n B iA iB =>
    intro p f i _ hL hr hi hf hp
    obtain ⟨f, rfl⟩ : ∃ g, f = g + 1 := ⟨f - 1, by omega⟩
    obtain ⟨l1, l2, l3, l4, l5⟩ := rb_L_in.mp hL
    rw [rb_ids_in] at hr hi hf hp
    have hN := hr n (by simp)
    have hA : ∀ j, j ∈ rb_ids A → 0 < j ∧ j < 49 := fun j hj => hr j (by simp [hj])
    have hA49 := rb_rt_lt hA
    simp only [List.length_append, List.length_cons] at hi hf
    rw [rb_rt_in]
    refine br_f (by rw [rb_48 (by omega)]; omega) ⟨rb_vi hN.2, ?_⟩
    rw [rb_clm hN.2, l1, rb_le0 hA49, rb_rt_0 hA]
    refine br_c (fun e => ?_) (fun e => ⟨rb_vi hN.2, nm_e (nm_r (nI_1 i) ?_)⟩)
    · subst e; exact hp
    · refine iA n f (i + 1) e l4 hA (by omega) (by omega) ?_
      rcases rb_cs A with rfl | ⟨A1, m, A2, rfl⟩
      · exact absurd rfl e
      · generalize hG : rb_ids (rb_in A1 m A2) = G at hp ⊢
        cases G with
        | nil => rw [rb_ids_in] at hG; simp at hG
        | cons g G => exact hp
end
end
section
/-! the readers that go up, and the methods that only read -/
theorem rb_snoc (G : List Nat) : G = [] ∨ ∃ G' g, G = G' ++ [g] := by
  rcases List.eq_nil_or_concat G with h | ⟨G', g, h⟩
  · exact Or.inl h
  · exact Or.inr ⟨G', g, by rw [h, List.concat_eq_append]⟩
section
variable {R fr cu : Int32} {l r a q k v z : rb_A} {w : rb_W}
theorem rb_beh24 {post : Int32 → Prop} : ∀ (c : rb_X) (n f i : Nat), a n = nI (rb_top c) → rb_C R l r a c n → 0 < n → n < 49 → n ∉ rb_ci c → rb_O (rb_ci c) → i + c.length ≤ 48 → c.length < f → post (nI ((rb_cr c).headD 0)) → wX_nodeBehind_24 post R fr cu l r a q k v z w f (nI n) (nI i)
  | [], n, f, i, ha, hC, h0, hn, hnc, hO, hi, hf, hp => by
    obtain ⟨f, rfl⟩ : ∃ g, f = g + 1 := ⟨f - 1, by omega⟩
    have hp' : post (a n) := by rw [ha]; exact hp
    have h1 : a n ≤ 0 := by rw [ha]; exact rb_z0
    refine br_c (fun _ => ⟨rb_vi hn, ?_⟩) (fun _ => ⟨rb_vi hn, ?_⟩)
    · rw [rb_clm hn]; exact hp'
    · rw [rb_clm hn]; exact br_t h1 ⟨rb_vi hn, hp'⟩
  | (d, p, s) :: c, n, f, i, ha, hC, h0, hn, hnc, hO, hi, hf, hp => by
    obtain ⟨f, rfl⟩ : ∃ g, f = g + 1 := ⟨f - 1, by omega⟩
    obtain ⟨c1, c2, c3, c4, c5⟩ := rb_C_cons.mp hC
    rw [rb_ci] at hO hnc
    have hP := hO.2 p List.mem_cons_self
    simp only [List.length_cons] at hi hf
    have ha' : a n = nI p := ha
    have hd := List.nodup_cons.mp hO.1
    have hd2 := List.nodup_append.mp hd.2
    refine br_f (by rw [rb_48 (by omega)]; omega) ⟨rb_vi hn, ?_⟩
    rw [rb_clm hn, ha', rb_clm hP.2]
    refine br_f (by rw [rb_le0 hP.2]; omega) ⟨rb_vi hn, rb_vi hP.2, ?_⟩
    cases d with
    | false =>
      refine br_t c1 ⟨rb_vi hn, nm_e (nm_r (nI_1 i) ?_)⟩
      exact rb_beh24 c p f (i + 1) c3 c5 hP.1 hP.2 (fun h => hd.1 (List.mem_append.mpr (Or.inr h))) ⟨hd2.2.1, fun j hj => hO.2 j (by simp [hj])⟩ (by omega) (by omega) hp
    | true =>
      have hs : ∀ j, j ∈ rb_ids s → 0 < j ∧ j < 49 := fun j hj => hO.2 j (by simp [hj])
      have hs49 := rb_rt_lt hs
      refine br_f ?_ ⟨rb_vi hn, hp⟩
      have c2' : r p = nI (rb_rt s) := c2
      rw [c2', rb_eqn hs49 hn]
      intro e
      rcases rb_rt_mem s with e' | e'
      · omega
      · exact hnc (by rw [← e]; simp [e'])
theorem rb_bef52 {post : Int32 → Prop} : ∀ (c : rb_X) (n f i : Nat), a n = nI (rb_top c) → rb_C R l r a c n → 0 < n → n < 49 → n ∉ rb_ci c → rb_O (rb_ci c) → i + c.length ≤ 48 → c.length < f → post (nI ((rb_cl c).getLastD 0)) → wX_nodeBefore_52 post R fr cu l r a q k v z w f (nI n) (nI i)
  | [], n, f, i, ha, hC, h0, hn, hnc, hO, hi, hf, hp => by
    obtain ⟨f, rfl⟩ : ∃ g, f = g + 1 := ⟨f - 1, by omega⟩
    have hp' : post (a n) := by rw [ha]; exact hp
    have h1 : a n ≤ 0 := by rw [ha]; exact rb_z0
    refine br_c (fun _ => ⟨rb_vi hn, ?_⟩) (fun _ => ⟨rb_vi hn, ?_⟩)
    · rw [rb_clm hn]; exact hp'
    · rw [rb_clm hn]; exact br_t h1 ⟨rb_vi hn, hp'⟩
  | (d, p, s) :: c, n, f, i, ha, hC, h0, hn, hnc, hO, hi, hf, hp => by
    obtain ⟨f, rfl⟩ : ∃ g, f = g + 1 := ⟨f - 1, by omega⟩
    obtain ⟨c1, c2, c3, c4, c5⟩ := rb_C_cons.mp hC
    rw [rb_ci] at hO hnc
    have hP := hO.2 p List.mem_cons_self
    simp only [List.length_cons] at hi hf
    have ha' : a n = nI p := ha
    have hd := List.nodup_cons.mp hO.1
    have hd2 := List.nodup_append.mp hd.2
    refine br_f (by rw [rb_48 (by omega)]; omega) ⟨rb_vi hn, ?_⟩
    rw [rb_clm hn, ha', rb_clm hP.2]
    refine br_f (by rw [rb_le0 hP.2]; omega) ⟨rb_vi hn, rb_vi hP.2, ?_⟩
    cases d with
    | true =>
      refine br_t c1 ⟨rb_vi hn, nm_e (nm_r (nI_1 i) ?_)⟩
      refine rb_bef52 c p f (i + 1) c3 c5 hP.1 hP.2 (fun h => hd.1 (List.mem_append.mpr (Or.inr h))) ⟨hd2.2.1, fun j hj => hO.2 j (by simp [hj])⟩ (by omega) (by omega) ?_
      have e : rb_cl ((true, p, s) :: c) = rb_cl c := by rw [rb_cl]; exact List.append_nil _
      rw [e] at hp; exact hp
    | false =>
      have hs : ∀ j, j ∈ rb_ids s → 0 < j ∧ j < 49 := fun j hj => hO.2 j (by simp [hj])
      have hs49 := rb_rt_lt hs
      have e : (rb_cl ((false, p, s) :: c)).getLastD 0 = p := by
        have e1 : rb_cl ((false, p, s) :: c) = (rb_cl c ++ rb_ids s) ++ [p] := by rw [rb_cl]; simp
        rw [e1, List.getLastD_concat]
      rw [e] at hp
      refine br_f ?_ ⟨rb_vi hn, hp⟩
      have c2' : l p = nI (rb_rt s) := c2
      rw [c2', rb_eqn hs49 hn]
      intro e
      rcases rb_rt_mem s with e' | e'
      · omega
      · exact hnc (by rw [← e]; simp [e'])
theorem rb_bef20 {post : Int32 → Prop} (t : rb_T) : ∀ (p f i : Nat), t ≠ rb_lf → rb_L l r a t p → (∀ j, j ∈ rb_ids t → 0 < j ∧ j < 49) → i + (rb_ids t).length ≤ 48 → (rb_ids t).length < f → post (nI ((rb_ids t).getLastD 0)) → wX_nodeBefore_20 post R fr cu l r a q k v z w f (nI (rb_rt t)) (nI i) := by
  induction t using rb_ind with
  | lf => intro p f i h; exact absurd rfl h
  | nd A n B iA iB =>
    intro p f i _ hL hr hi hf hp
    obtain ⟨f, rfl⟩ : ∃ g, f = g + 1 := ⟨f - 1, by omega⟩
    obtain ⟨l1, l2, l3, l4, l5⟩ := rb_L_in.mp hL
    rw [rb_ids_in] at hr hi hf hp
    have hN := hr n (by simp)
    have hB : ∀ j, j ∈ rb_ids B → 0 < j ∧ j < 49 := fun j hj => hr j (by simp [hj])
    have hB49 := rb_rt_lt hB
    simp only [List.length_append, List.length_cons] at hi hf
    rw [rb_rt_in]
    refine br_f (by rw [rb_48 (by omega)]; omega) ⟨rb_vi hN.2, ?_⟩
    rw [rb_clm hN.2, l2, rb_le0 hB49, rb_rt_0 hB]
    refine br_c (fun e => ?_) (fun e => ⟨rb_vi hN.2, nm_e (nm_r (nI_1 i) ?_)⟩)
    · subst e
      rw [rb_ids_lf, List.getLastD_concat] at hp
      exact hp
    · refine iB n f (i + 1) e l5 hB (by omega) (by omega) ?_
      rcases rb_cs B with rfl | ⟨B1, m, B2, rfl⟩
      · exact absurd rfl e
      · generalize hG : rb_ids (rb_in B1 m B2) = G at hp ⊢
        rcases rb_snoc G with rfl | ⟨G', g, rfl⟩
        · rw [rb_ids_in] at hG; simp at hG
        · have e1 : rb_ids A ++ n :: (G' ++ [g]) = (rb_ids A ++ n :: G') ++ [g] := by simp
          rw [e1, List.getLastD_concat] at hp
          rw [List.getLastD_concat]; exact hp
theorem rb_behind {post : Int32 → Prop} {c : rb_X} {A B : rb_T} {n : Nat} (hO : rb_O (rb_ids (rb_in A n B) ++ rb_ci c)) (hl : (rb_ids (rb_in A n B) ++ rb_ci c).length ≤ 48) (hL : rb_L l r a (rb_in A n B) (rb_top c)) (hC : rb_C R l r a c n) (hp : post (nI ((rb_ids B ++ rb_cr c).headD 0))) : wpX_nodeBehind post (R, fr, cu, l, r, a, q, k, v, z, w) (nI n) := by
  obtain ⟨l1, l2, l3, l4, l5⟩ := rb_L_in.mp hL
  rw [rb_ids_in] at hO hl
  have hN := hO.2 n (by simp)
  have hB : ∀ j, j ∈ rb_ids B → 0 < j ∧ j < 49 := fun j hj => hO.2 j (by simp [hj])
  have hB49 := rb_rt_lt hB
  have hcl := rb_ci_len c
  have hd := List.nodup_append.mp hO.1
  simp only [List.length_append, List.length_cons] at hl
  simp only [wpX_nodeBehind, rb_clm hN.2, l2, rb_le0 hB49, rb_rt_0 hB]
  refine ⟨rb_vi hN.2, br_c (fun e => ?_) (fun e => ⟨rb_vi hN.2, ?_⟩)⟩
  · subst e
    exact ⟨60, rb_beh24 c n 60 0 l3 hC hN.1 hN.2 (fun h => hd.2.2 n (by simp) n h rfl) ⟨hd.2.1, fun j hj => hO.2 j (by simp [hj])⟩ (by omega) (by omega) hp⟩
  · refine ⟨60, rb_first4 B n 60 0 e l5 hB (by omega) (by omega) ?_⟩
    rcases rb_cs B with rfl | ⟨B1, m, B2, rfl⟩
    · exact absurd rfl e
    · generalize hG : rb_ids (rb_in B1 m B2) = G at hp ⊢
      cases G with
      | nil => rw [rb_ids_in] at hG; simp at hG
      | cons g G => exact hp
theorem rb_before {post : Int32 → Prop} {c : rb_X} {A B : rb_T} {n : Nat} (hO : rb_O (rb_ids (rb_in A n B) ++ rb_ci c)) (hl : (rb_ids (rb_in A n B) ++ rb_ci c).length ≤ 48) (hL : rb_L l r a (rb_in A n B) (rb_top c)) (hC : rb_C R l r a c n) (hp : post (nI ((rb_cl c ++ rb_ids A).getLastD 0))) : wpX_nodeBefore post (R, fr, cu, l, r, a, q, k, v, z, w) (nI n) := by
  obtain ⟨l1, l2, l3, l4, l5⟩ := rb_L_in.mp hL
  rw [rb_ids_in] at hO hl
  have hN := hO.2 n (by simp)
  have hA : ∀ j, j ∈ rb_ids A → 0 < j ∧ j < 49 := fun j hj => hO.2 j (by simp [hj])
  have hA49 := rb_rt_lt hA
  have hcl := rb_ci_len c
  have hd := List.nodup_append.mp hO.1
  simp only [List.length_append, List.length_cons] at hl
  simp only [wpX_nodeBefore, rb_clm hN.2, l1, rb_le0 hA49, rb_rt_0 hA]
  refine ⟨rb_vi hN.2, br_c (fun e => ?_) (fun e => ⟨rb_vi hN.2, nm_e ?_⟩)⟩
  · subst e
    rw [rb_ids_lf, List.append_nil] at hp
    exact ⟨60, rb_bef52 c n 60 0 l3 hC hN.1 hN.2 (fun h => hd.2.2 n (by simp) n h rfl) ⟨hd.2.1, fun j hj => hO.2 j (by simp [hj])⟩ (by omega) (by omega) hp⟩
  · refine ⟨60, rb_bef20 A n 60 0 e l4 hA (by omega) (by omega) ?_⟩
    rcases rb_cs A with rfl | ⟨B1, m, B2, rfl⟩
    · exact absurd rfl e
    · generalize hG : rb_ids (rb_in B1 m B2) = G at hp ⊢
      rcases rb_snoc G with rfl | ⟨G', g, rfl⟩
      · rw [rb_ids_in] at hG; simp at hG
      · rw [← List.append_assoc, List.getLastD_concat] at hp
        rw [List.getLastD_concat]; exact hp
end
end
section
/-! the stores: refresh, refreshUp, replace, the two turns -/
theorem rb_us {f : Nat → Int32} {i : Nat} {x : Int32} : upd f i x i = x := if_pos rfl
theorem rb_un {f : Nat → Int32} {i j : Nat} {x : Int32} (h : j ≠ i) : upd f i x j = f j := if_neg h
theorem rb_uLs {f : Nat → Int64} {i : Nat} {x : Int64} : vp_updL f i x i = x := if_pos rfl
theorem rb_uLn {f : Nat → Int64} {i j : Nat} {x : Int64} (h : j ≠ i) : vp_updL f i x j = f j := if_neg h
section
variable {R fr cu : Int32} {l r a q k v z : rb_A} {w : rb_W}
theorem rb_refresh {post : SX → Prop} {n x y : Nat} (hn : n < 49) (hx : x < 49) (hy : y < 49) (hl : l n = nI x) (hr : r n = nI y) (h : post (R, fr, cu, l, r, a, q, k, v, upd z n (z x + z y + 1), vp_updL w n (w x + w y + (v n).toInt64))) : wpX_refresh post (R, fr, cu, l, r, a, q, k, v, z, w) (nI n) := by
  simp only [wpX_refresh, rb_clm hn, rb_clm hx, rb_clm hy, hl, hr, rb_vi hn, rb_vi hx, rb_vi hy, true_and, forall_eq]
  exact h
theorem rb_upLoop {post : SX → Prop} : ∀ (c : rb_X) (t : rb_T) (z : rb_A) (w : rb_W) (f i : Nat), c.length < f → i + c.length ≤ 48 → rb_O (rb_ids t ++ rb_ci c) → rb_C R l r a c (rb_rt t) → rb_Z v z w t → rb_Y v z w c → z 0 = 0 → w 0 = 0 → (∀ z' w', rb_Z v z' w' (rb_pl c t) → (∀ j, j ∉ rb_ci c → z' j = z j ∧ w' j = w j) → post (R, fr, cu, l, r, a, q, k, v, z', w')) → wX_refreshUp_4 post f (nI (rb_top c)) (nI i) R fr cu l r a q k v z w
  | [], t, z, w, f, i, hf, hi, hO, hC, hZ, hY, z0, w0, hp => by
    obtain ⟨f, rfl⟩ : ∃ g, f = g + 1 := ⟨f - 1, by omega⟩
    have hz := hp z w hZ (fun _ _ => ⟨rfl, rfl⟩)
    exact br_c (fun _ => hz) (fun _ => br_t rb_z0 hz)
  | (d, n, s) :: c, t, z, w, f, i, hf, hi, hO, hC, hZ, hY, z0, w0, hp => by
    obtain ⟨f, rfl⟩ : ∃ g, f = g + 1 := ⟨f - 1, by omega⟩
    obtain ⟨c1, c2, c3, c4, c5⟩ := rb_C_cons.mp hC
    obtain ⟨y1, y2⟩ := hY
    rw [rb_ci] at hO
    have hN := hO.2 n (by simp)
    have ht49 : rb_rt t < 49 := rb_rt_lt (fun j hj => hO.2 j (by simp [hj]))
    have hs49 : rb_rt s < 49 := rb_rt_lt (fun j hj => hO.2 j (by simp [hj]))
    simp only [List.length_cons] at hf hi
    obtain ⟨d1, d2, d3⟩ := List.nodup_append.mp hO.1
    obtain ⟨d4, d5⟩ := List.nodup_cons.mp d2
    have nt : ∀ j, j ∈ rb_ids t → j ≠ n := fun j hj => d3 j hj n List.mem_cons_self
    have ns : ∀ j, j ∈ rb_ids s → j ≠ n := fun j hj e => d4 (by rw [← e]; simp [hj])
    have nc : ∀ j, j ∈ rb_ci c → j ≠ n := fun j hj e => d4 (by rw [← e]; simp [hj])
    obtain ⟨zt1, zt2⟩ := rb_Z_rt t z0 w0 hZ
    obtain ⟨zs1, zs2⟩ := rb_Z_rt s z0 w0 y1
    show wX_refreshUp_4 post (f + 1) (nI n) (nI i) R fr cu l r a q k v z w
    refine br_f (by rw [rb_48 (by omega)]; omega) (br_f (by rw [rb_le0 hN.2]; omega) ?_)
    have key : ∀ (z1 : rb_A) (w1 : rb_W), z1 = upd z n (nI ((rb_ids t).length + (rb_ids s).length + 1)) → w1 = vp_updL w n (rb_sm v (rb_ids t) + rb_sm v (rb_ids s) + (v n).toInt64) → wX_refreshUp_4 post f (nI (rb_top c)) (nI (i + 1)) R fr cu l r a q k v z1 w1 := by
      intro z1 w1 e1 e2
      have fz : ∀ j, j ≠ n → v j = v j ∧ z1 j = z j ∧ w1 j = w j := by
        intro j hj; rw [e1, e2, rb_un hj, rb_uLn hj]; exact ⟨rfl, rfl, rfl⟩
      refine rb_upLoop c (rb_nd d t n s) z1 w1 f (i + 1) (by omega) (by omega) ?_ (by rw [rb_rt_nd]; exact c5) ?_ (rb_Y_fr c y2 (fun j hj => fz j (nc j hj))) ?_ ?_ ?_
      · refine (rb_O_perm ?_).mp hO
        refine List.perm_iff_count.mpr (fun x => ?_)
        have := (rb_nd_perm (d := d) (A := t) (n := n) (B := s)).count_eq x
        simp only [List.count_append, List.count_cons] at this ⊢; omega
      · refine rb_Z_nd.mpr ⟨by rw [e1, rb_us], by rw [e2, rb_uLs], rb_Z_fr t hZ (fun j hj => fz j (nt j hj)), rb_Z_fr s y1 (fun j hj => fz j (ns j hj))⟩
      · rw [(fz 0 (by omega)).2.1]; exact z0
      · rw [(fz 0 (by omega)).2.2]; exact w0
      · intro z' w' g1 g2
        refine hp z' w' g1 (fun j hj => ?_)
        rw [rb_ci] at hj
        have hj1 : j ≠ n := fun e => hj (by rw [e]; simp)
        have hj2 : j ∉ rb_ci c := fun e => hj (by simp [e])
        rw [(g2 j hj2).1, (g2 j hj2).2]
        exact (fz j hj1).2
    cases d with
    | true =>
      refine rb_refresh hN.2 ht49 hs49 c1 c2 ⟨rb_vi hN.2, ?_⟩
      rw [rb_clm hN.2]
      refine nm_r c3 (nm_r (nI_1 i) (key _ _ ?_ ?_))
      · rw [zt1, zs1, nI_add, nI_1]
      · rw [zt2, zs2]
    | false =>
      refine rb_refresh hN.2 hs49 ht49 c2 c1 ⟨rb_vi hN.2, ?_⟩
      rw [rb_clm hN.2]
      refine nm_r c3 (nm_r (nI_1 i) (key _ _ ?_ ?_))
      · rw [zt1, zs1, nI_add, nI_1, Nat.add_comm (rb_ids s).length]
      · rw [zt2, zs2, Int64.add_comm (rb_sm v (rb_ids s))]
theorem rb_replace {post : SX → Prop} {c : rb_X} {n b : Nat} (hO : rb_O (rb_ci c)) (h0 : 0 < n) (hn : n < 49) (hnc : n ∉ rb_ci c) (hb : b < 49) (hbc : b ∉ rb_ci c) (ha : a n = nI (rb_top c)) (hC : rb_C R l r a c n) (h : ∀ R' l' r', rb_C R' l' r' (upd a b (nI (rb_top c))) c b → (∀ j, j ∉ rb_ci c → l' j = l j ∧ r' j = r j) → post (R', fr, cu, l', r', upd a b (nI (rb_top c)), q, k, v, z, w)) : wpX_replace post (R, fr, cu, l, r, a, q, k, v, z, w) (nI n) (nI b) := by
  cases c with
  | nil =>
    simp only [wpX_replace, rb_clm hn, rb_clm hb, ha, forall_eq]
    exact ⟨rb_vi hn, br_t rfl ⟨rb_vi hb, h (nI b) l r rfl (fun _ _ => ⟨rfl, rfl⟩)⟩⟩
  | cons f c =>
    obtain ⟨d, p, s⟩ := f
    obtain ⟨c1, c2, c3, c4, c5⟩ := rb_C_cons.mp hC
    rw [rb_ci] at hO hnc hbc
    have hP := hO.2 p List.mem_cons_self
    have ha' : a n = nI p := ha
    obtain ⟨d1, d2⟩ := List.nodup_cons.mp hO.1
    obtain ⟨d3, d4, d5⟩ := List.nodup_append.mp d2
    have hs : ∀ j, j ∈ rb_ids s → 0 < j ∧ j < 49 := fun j hj => hO.2 j (by simp [hj])
    have hs49 := rb_rt_lt hs
    have ps : ∀ j, j ∈ rb_ids s → j ≠ p := fun j hj e => d1 (by rw [← e]; simp [hj])
    have pc : ∀ j, j ∈ rb_ci c → j ≠ p := fun j hj e => d1 (by rw [← e]; simp [hj])
    have bs : ∀ j, j ∈ rb_ids s → j ≠ b := fun j hj e => hbc (by rw [← e]; simp [hj])
    have bc : ∀ j, j ∈ rb_ci c → j ≠ b := fun j hj e => hbc (by rw [← e]; simp [hj])
    have pb : p ≠ b := fun e => hbc (by rw [← e]; simp)
    simp only [wpX_replace, rb_clm hn, rb_clm hb, ha', rb_clm hP.2, forall_eq]
    refine ⟨rb_vi hn, br_f (by rw [rb_eq0 hP.2]; omega) ⟨rb_vi hP.2, ?_⟩⟩
    cases d with
    | true =>
      refine br_t c1 ⟨rb_vi hP.2, rb_vi hb, h R (upd l p (nI b)) r ?_ ?_⟩
      · refine rb_C_cons.mpr ⟨rb_us, c2, (rb_un pb).trans c3, rb_L_fr s p c4 (fun j hj => ⟨rb_un (ps j hj), rfl, rb_un (bs j hj)⟩), rb_C_fr c p c5 (fun j hj => ⟨rb_un (pc j hj), rfl, rb_un (bc j hj)⟩)⟩
      · intro j hj
        exact ⟨rb_un (fun e => hj (by rw [e, rb_ci]; simp)), rfl⟩
    | false =>
      refine br_f ?_ ⟨rb_vi hP.2, rb_vi hb, h R l (upd r p (nI b)) ?_ ?_⟩
      · have c2' : l p = nI (rb_rt s) := c2
        rw [c2', rb_eqn hs49 hn]
        intro e
        rcases rb_rt_mem s with e' | e'
        · omega
        · exact hnc (by rw [← e]; simp [e'])
      · refine rb_C_cons.mpr ⟨rb_us, c2, (rb_un pb).trans c3, rb_L_fr s p c4 (fun j hj => ⟨rfl, rb_un (ps j hj), rb_un (bs j hj)⟩), rb_C_fr c p c5 (fun j hj => ⟨rfl, rb_un (pc j hj), rb_un (bc j hj)⟩)⟩
      · intro j hj
        exact ⟨rfl, rb_un (fun e => hj (by rw [e, rb_ci]; simp))⟩
theorem rb_dj {A B C X : List Nat} {n m : Nat} (hd : (n :: m :: (A ++ (B ++ (C ++ X)))).Nodup) : n ≠ m ∧ (∀ j, j ∈ A → j ≠ n ∧ j ≠ m ∧ j ∉ X ∧ j ∉ B ∧ j ∉ C) ∧ (∀ j, j ∈ B → j ≠ n ∧ j ≠ m ∧ j ∉ X ∧ j ∉ C) ∧ (∀ j, j ∈ C → j ≠ n ∧ j ≠ m ∧ j ∉ X) ∧ (∀ j, j ∈ X → j ≠ n ∧ j ≠ m) ∧ B.Nodup ∧ X.Nodup := by
  simp only [List.nodup_cons, List.nodup_append, List.mem_append, List.mem_cons, not_or] at hd
  grind
theorem rb_tperm {d : Bool} {A B C : rb_T} {n m : Nat} {X : List Nat} : (rb_ids (rb_nd d A n (rb_nd d B m C)) ++ X).Perm (n :: m :: (rb_ids A ++ (rb_ids B ++ (rb_ids C ++ X)))) := by
  refine List.perm_iff_count.mpr (fun x => ?_)
  have h1 := (rb_nd_perm (d := d) (A := A) (n := n) (B := rb_nd d B m C)).count_eq x
  have h2 := (rb_nd_perm (d := d) (A := B) (n := m) (B := C)).count_eq x
  simp only [List.count_append, List.count_cons] at h1 h2 ⊢; omega
theorem rb_tLeft40 {post : SX → Prop} {c : rb_X} {A B C : rb_T} {n m : Nat} (hO : rb_O (n :: m :: (rb_ids A ++ (rb_ids B ++ (rb_ids C ++ rb_ci c))))) (hC : rb_C R l r a c n) (an : a n = nI (rb_top c)) (pn : l n = nI (rb_rt A)) (qn : r n = nI (rb_rt B)) (qm : r m = nI (rb_rt C)) (hA : rb_L l r a A n) (hB : rb_L l r a B n) (hK : rb_L l r a C m) (zA : rb_Z v z w A) (zB : rb_Z v z w B) (zC : rb_Z v z w C) (z0 : z 0 = 0) (w0 : w 0 = 0) (h : ∀ R' l' r' a' z' w', rb_L l' r' a' (rb_nd true (rb_nd true A n B) m C) (rb_top c) → rb_C R' l' r' a' c m → rb_Z v z' w' (rb_nd true (rb_nd true A n B) m C) → (∀ j, j ≠ n → j ≠ m → a' j = a j ∧ z' j = z j ∧ w' j = w j) → post (R', fr, cu, l', r', a', q, k, v, z', w')) : wX_turnLeft_40 post (nI n) (nI m) R fr cu l r a q k v z w := by
  obtain ⟨nm, jA, jB, jC, jX, dB, dX⟩ := rb_dj hO.1
  have hN := hO.2 n (by simp)
  have hM := hO.2 m (by simp)
  have rA : ∀ j, j ∈ rb_ids A → 0 < j ∧ j < 49 := fun j hj => hO.2 j (by simp [hj])
  have rB : ∀ j, j ∈ rb_ids B → 0 < j ∧ j < 49 := fun j hj => hO.2 j (by simp [hj])
  have rC : ∀ j, j ∈ rb_ids C → 0 < j ∧ j < 49 := fun j hj => hO.2 j (by simp [hj])
  have rX : ∀ j, j ∈ rb_ci c → 0 < j ∧ j < 49 := fun j hj => hO.2 j (by simp [hj])
  have nX : n ∉ rb_ci c := fun e => (jX n e).1 rfl
  have mX : m ∉ rb_ci c := fun e => (jX m e).2 rfl
  obtain ⟨sA, tA⟩ := rb_Z_rt A z0 w0 zA
  obtain ⟨sB, tB⟩ := rb_Z_rt B z0 w0 zB
  obtain ⟨sC, tC⟩ := rb_Z_rt C z0 w0 zC
  have Cn : rb_rt C ≠ n := by
    rcases rb_rt_mem C with e | e
    · omega
    · exact (jC _ e).1
  unfold wX_turnLeft_40
  refine rb_replace (c := c) ⟨dX, rX⟩ hN.1 hN.2 nX hM.2 mX an hC (fun R' l' r' hC' hf => ?_)
  dsimp only
  rw [rb_clm hN.2, rb_clm hM.2]
  refine ⟨rb_vi hM.2, nm_e ⟨rb_vi hN.2, nm_e ?_⟩⟩
  have e1 : upd l' m (nI n) n = nI (rb_rt A) := by rw [rb_un nm, (hf n nX).1, pn]
  have e2 : r' n = nI (rb_rt B) := by rw [(hf n nX).2, qn]
  have e3 : upd l' m (nI n) m = nI n := rb_us
  have e4 : r' m = nI (rb_rt C) := by rw [(hf m mX).2, qm]
  refine rb_refresh hN.2 (rb_rt_lt rA) (rb_rt_lt rB) e1 e2 ?_
  dsimp only
  refine rb_refresh hM.2 hN.2 (rb_rt_lt rC) e3 e4 ?_
  dsimp only
  have fr1 : ∀ j, j ≠ n → j ≠ m → j ∉ rb_ci c → (upd l' m (nI n)) j = l j ∧ r' j = r j ∧ upd (upd a m (nI (rb_top c))) n (nI m) j = a j := by
    intro j j1 j2 j3
    rw [rb_un j2, rb_un j1, rb_un j2]
    exact ⟨(hf j j3).1, (hf j j3).2, rfl⟩
  refine h R' (upd l' m (nI n)) r' _ _ _ ?_ ?_ ?_ ?_
  · refine rb_L_nd.mpr ⟨?_, e4, ?_, rb_L_nd.mpr ⟨e1, e2, rb_us, ?_, ?_⟩, ?_⟩
    · rw [rb_rt_nd]; exact e3
    · rw [rb_un (Ne.symm nm), rb_us]
    · exact rb_L_fr A n hA (fun j hj =>  (fr1 j (jA j hj).1 (jA j hj).2.1 (jA j hj).2.2.1))
    · exact rb_L_fr B n hB (fun j hj =>  (fr1 j (jB j hj).1 (jB j hj).2.1 (jB j hj).2.2.1))
    · exact rb_L_fr C m hK (fun j hj =>  (fr1 j (jC j hj).1 (jC j hj).2.1 (jC j hj).2.2))
  · exact rb_C_fr c m hC' (fun j hj => ⟨rb_un (jX j hj).2, rfl, rb_un (jX j hj).1⟩)
  · refine rb_Z_nd.mpr ⟨?_, ?_, rb_Z_nd.mpr ⟨?_, ?_, ?_, ?_⟩, ?_⟩
    · rw [rb_us, rb_us, rb_un Cn, sA, sB, sC, rb_len_nd]; simp only [nI_add, nI_1]
    · rw [rb_uLs, rb_uLs, rb_uLn Cn, tA, tB, tC, rb_sm_nd]
    · rw [rb_un nm, rb_us, sA, sB]; simp only [nI_add, nI_1]
    · rw [rb_uLn nm, rb_uLs, tA, tB]
    · exact rb_Z_fr A zA (fun j hj => ⟨rfl, by rw [rb_un (jA j hj).2.1, rb_un (jA j hj).1], by rw [rb_uLn (jA j hj).2.1, rb_uLn (jA j hj).1]⟩)
    · exact rb_Z_fr B zB (fun j hj => ⟨rfl, by rw [rb_un (jB j hj).2.1, rb_un (jB j hj).1], by rw [rb_uLn (jB j hj).2.1, rb_uLn (jB j hj).1]⟩)
    · exact rb_Z_fr C zC (fun j hj => ⟨rfl, by rw [rb_un (jC j hj).2.1, rb_un (jC j hj).1], by rw [rb_uLn (jC j hj).2.1, rb_uLn (jC j hj).1]⟩)
  · intro j j1 j2
    rw [rb_un j1, rb_un j2, rb_un j2, rb_un j1, rb_uLn j2, rb_uLn j1]
    exact ⟨rfl, rfl, rfl⟩
theorem rb_turnLeft {post : SX → Prop} {c : rb_X} {A B C : rb_T} {n m : Nat} (hO : rb_O (rb_ids (rb_nd true A n (rb_nd true B m C)) ++ rb_ci c)) (hL : rb_L l r a (rb_nd true A n (rb_nd true B m C)) (rb_top c)) (hC : rb_C R l r a c n) (hZ : rb_Z v z w (rb_nd true A n (rb_nd true B m C))) (z0 : z 0 = 0) (w0 : w 0 = 0) (h : ∀ R' l' r' a' z' w', rb_L l' r' a' (rb_nd true (rb_nd true A n B) m C) (rb_top c) → rb_C R' l' r' a' c m → rb_Z v z' w' (rb_nd true (rb_nd true A n B) m C) → (∀ j, j ∉ rb_ids (rb_nd true A n (rb_nd true B m C)) → a' j = a j ∧ z' j = z j ∧ w' j = w j) → post (R', fr, cu, l', r', a', q, k, v, z', w')) : wpX_turnLeft post (R, fr, cu, l, r, a, q, k, v, z, w) (nI n) := by
  have hO' := (rb_O_perm rb_tperm).mp hO
  obtain ⟨nm, jA, jB, jC, jX, dB, dX⟩ := rb_dj hO'.1
  have hN := hO'.2 n (by simp)
  have hM := hO'.2 m (by simp)
  have rB : ∀ j, j ∈ rb_ids B → 0 < j ∧ j < 49 := fun j hj => hO'.2 j (by simp [hj])
  have rB49 := rb_rt_lt rB
  obtain ⟨p1, p2, p3, hA, hBC⟩ := rb_L_nd.mp hL
  obtain ⟨p4, p5, p6, hB, hK⟩ := rb_L_nd.mp hBC
  obtain ⟨_, _, zA, zBC⟩ := rb_Z_nd.mp hZ
  obtain ⟨_, _, zB, zC⟩ := rb_Z_nd.mp zBC
  rw [rb_rt_nd] at p2
  have p1' : l n = nI (rb_rt A) := p1
  have p2' : r n = nI m := p2
  have p4' : l m = nI (rb_rt B) := p4
  have p5' : r m = nI (rb_rt C) := p5
  have hn' : ∀ j, j ∉ rb_ids (rb_nd true A n (rb_nd true B m C)) → j ≠ n ∧ j ≠ m ∧ j ∉ rb_ids B := by
    intro j hj
    rw [rb_mem_nd, rb_mem_nd] at hj
    exact ⟨fun e => hj (Or.inl e), fun e => hj (Or.inr (Or.inr (Or.inl e))), fun e => hj (Or.inr (Or.inr (Or.inr (Or.inl e))))⟩
  simp only [wpX_turnLeft, rb_clm hN.2, p2', rb_clm hM.2, p4', rb_clm rB49, rb_le0 rB49, rb_rt_0 rB, forall_eq]
  refine ⟨rb_vi hN.2, rb_vi hM.2, rb_vi hN.2, rb_vi hM.2, br_c (fun e => ?_) (fun e => ⟨rb_vi hM.2, rb_vi rB49, ?_⟩)⟩
  · subst e
    refine rb_tLeft40 (A := A) (B := rb_lf) (C := C) hO' (rb_C_fr c n hC (fun j hj => ⟨rfl, rb_un (jX j hj).1, rfl⟩)) p3 p1' rb_us ((rb_un (Ne.symm nm)).trans p5') (rb_L_fr A n hA (fun j hj => ⟨rfl, rb_un (jA j hj).1, rfl⟩)) True.intro (rb_L_fr C m hK (fun j hj => ⟨rfl, rb_un (jC j hj).1, rfl⟩)) zA zB zC z0 w0 ?_
    intro R' l' r' a' z' w' g1 g2 g3 g4
    exact h R' l' r' a' z' w' g1 g2 g3 (fun j hj => g4 j (hn' j hj).1 (hn' j hj).2.1)
  · have bm : rb_rt B ∈ rb_ids B := by
      rcases rb_rt_mem B with e' | e'
      · exact absurd ((rb_rt_0 rB).mp e') e
      · exact e'
    have jb := jB _ bm
    refine rb_tLeft40 (A := A) (B := B) (C := C) hO' (rb_C_fr c n hC (fun j hj => ⟨rfl, rb_un (jX j hj).1, rb_un (fun e => jb.2.2.1 (e ▸ hj))⟩)) ((rb_un (Ne.symm jb.1)).trans p3) p1' rb_us ((rb_un (Ne.symm nm)).trans p5') (rb_L_fr A n hA (fun j hj => ⟨rfl, rb_un (jA j hj).1, rb_un (fun e => (jA j hj).2.2.2.1 (e ▸ bm))⟩)) (rb_L_re hB dB (fun j hj => ⟨rfl, rb_un (jB j hj).1, fun e => rb_un e⟩) (fun _ => rb_us)) (rb_L_fr C m hK (fun j hj => ⟨rfl, rb_un (jC j hj).1, rb_un (fun e => jb.2.2.2 (e ▸ hj))⟩)) zA zB zC z0 w0 ?_
    intro R' l' r' a' z' w' g1 g2 g3 g4
    refine h R' l' r' a' z' w' g1 g2 g3 (fun j hj => ?_)
    have g := g4 j (hn' j hj).1 (hn' j hj).2.1
    have jb2 : j ≠ rb_rt B := fun e => (hn' j hj).2.2 (by rw [e]; exact bm)
    rw [rb_un jb2] at g
    exact g
theorem rb_tRight40 {post : SX → Prop} {c : rb_X} {A B C : rb_T} {n m : Nat} (hO : rb_O (n :: m :: (rb_ids A ++ (rb_ids B ++ (rb_ids C ++ rb_ci c))))) (hC : rb_C R l r a c n) (an : a n = nI (rb_top c)) (pn : r n = nI (rb_rt A)) (qn : l n = nI (rb_rt B)) (qm : l m = nI (rb_rt C)) (hA : rb_L l r a A n) (hB : rb_L l r a B n) (hK : rb_L l r a C m) (zA : rb_Z v z w A) (zB : rb_Z v z w B) (zC : rb_Z v z w C) (z0 : z 0 = 0) (w0 : w 0 = 0) (h : ∀ R' l' r' a' z' w', rb_L l' r' a' (rb_nd false (rb_nd false A n B) m C) (rb_top c) → rb_C R' l' r' a' c m → rb_Z v z' w' (rb_nd false (rb_nd false A n B) m C) → (∀ j, j ≠ n → j ≠ m → a' j = a j ∧ z' j = z j ∧ w' j = w j) → post (R', fr, cu, l', r', a', q, k, v, z', w')) : wX_turnRight_40 post (nI n) (nI m) R fr cu l r a q k v z w := by
  obtain ⟨nm, jA, jB, jC, jX, dB, dX⟩ := rb_dj hO.1
  have hN := hO.2 n (by simp)
  have hM := hO.2 m (by simp)
  have rA : ∀ j, j ∈ rb_ids A → 0 < j ∧ j < 49 := fun j hj => hO.2 j (by simp [hj])
  have rB : ∀ j, j ∈ rb_ids B → 0 < j ∧ j < 49 := fun j hj => hO.2 j (by simp [hj])
  have rC : ∀ j, j ∈ rb_ids C → 0 < j ∧ j < 49 := fun j hj => hO.2 j (by simp [hj])
  have rX : ∀ j, j ∈ rb_ci c → 0 < j ∧ j < 49 := fun j hj => hO.2 j (by simp [hj])
  have nX : n ∉ rb_ci c := fun e => (jX n e).1 rfl
  have mX : m ∉ rb_ci c := fun e => (jX m e).2 rfl
  obtain ⟨sA, tA⟩ := rb_Z_rt A z0 w0 zA
  obtain ⟨sB, tB⟩ := rb_Z_rt B z0 w0 zB
  obtain ⟨sC, tC⟩ := rb_Z_rt C z0 w0 zC
  have Cn : rb_rt C ≠ n := by
    rcases rb_rt_mem C with e | e
    · omega
    · exact (jC _ e).1
  unfold wX_turnRight_40
  refine rb_replace (c := c) ⟨dX, rX⟩ hN.1 hN.2 nX hM.2 mX an hC (fun R' l' r' hC' hf => ?_)
  dsimp only
  rw [rb_clm hN.2, rb_clm hM.2]
  refine ⟨rb_vi hM.2, nm_e ⟨rb_vi hN.2, nm_e ?_⟩⟩
  have e1 : upd r' m (nI n) n = nI (rb_rt A) := by rw [rb_un nm, (hf n nX).2, pn]
  have e2 : l' n = nI (rb_rt B) := by rw [(hf n nX).1, qn]
  have e3 : upd r' m (nI n) m = nI n := rb_us
  have e4 : l' m = nI (rb_rt C) := by rw [(hf m mX).1, qm]
  refine rb_refresh hN.2 (rb_rt_lt rB) (rb_rt_lt rA) e2 e1 ?_
  dsimp only
  refine rb_refresh hM.2 (rb_rt_lt rC) hN.2 e4 e3 ?_
  dsimp only
  have fr1 : ∀ j, j ≠ n → j ≠ m → j ∉ rb_ci c → (upd r' m (nI n)) j = r j ∧ l' j = l j ∧ upd (upd a m (nI (rb_top c))) n (nI m) j = a j := by
    intro j j1 j2 j3
    rw [rb_un j2, rb_un j1, rb_un j2]
    exact ⟨(hf j j3).2, (hf j j3).1, rfl⟩
  refine h R' l' (upd r' m (nI n)) _ _ _ ?_ ?_ ?_ ?_
  · refine rb_L_nd.mpr ⟨?_, e4, ?_, rb_L_nd.mpr ⟨e1, e2, rb_us, ?_, ?_⟩, ?_⟩
    · rw [rb_rt_nd]; exact e3
    · rw [rb_un (Ne.symm nm), rb_us]
    · exact rb_L_fr A n hA (fun j hj => (fun x => ⟨x.2.1, x.1, x.2.2⟩) (fr1 j (jA j hj).1 (jA j hj).2.1 (jA j hj).2.2.1))
    · exact rb_L_fr B n hB (fun j hj => (fun x => ⟨x.2.1, x.1, x.2.2⟩) (fr1 j (jB j hj).1 (jB j hj).2.1 (jB j hj).2.2.1))
    · exact rb_L_fr C m hK (fun j hj => (fun x => ⟨x.2.1, x.1, x.2.2⟩) (fr1 j (jC j hj).1 (jC j hj).2.1 (jC j hj).2.2))
  · exact rb_C_fr c m hC' (fun j hj => ⟨rfl, rb_un (jX j hj).2, rb_un (jX j hj).1⟩)
  · refine rb_Z_nd.mpr ⟨?_, ?_, rb_Z_nd.mpr ⟨?_, ?_, ?_, ?_⟩, ?_⟩
    · rw [rb_us, rb_us, rb_un Cn, sA, sB, sC, rb_len_nd]; simp only [nI_add, nI_1]; exact congrArg nI (by omega)
    · rw [rb_uLs, rb_uLs, rb_uLn Cn, tA, tB, tC, rb_sm_nd]; grind
    · rw [rb_un nm, rb_us, sA, sB]; simp only [nI_add, nI_1]; exact congrArg nI (by omega)
    · rw [rb_uLn nm, rb_uLs, tA, tB]; grind
    · exact rb_Z_fr A zA (fun j hj => ⟨rfl, by rw [rb_un (jA j hj).2.1, rb_un (jA j hj).1], by rw [rb_uLn (jA j hj).2.1, rb_uLn (jA j hj).1]⟩)
    · exact rb_Z_fr B zB (fun j hj => ⟨rfl, by rw [rb_un (jB j hj).2.1, rb_un (jB j hj).1], by rw [rb_uLn (jB j hj).2.1, rb_uLn (jB j hj).1]⟩)
    · exact rb_Z_fr C zC (fun j hj => ⟨rfl, by rw [rb_un (jC j hj).2.1, rb_un (jC j hj).1], by rw [rb_uLn (jC j hj).2.1, rb_uLn (jC j hj).1]⟩)
  · intro j j1 j2
    rw [rb_un j1, rb_un j2, rb_un j2, rb_un j1, rb_uLn j2, rb_uLn j1]
    exact ⟨rfl, rfl, rfl⟩
theorem rb_turnRight {post : SX → Prop} {c : rb_X} {A B C : rb_T} {n m : Nat} (hO : rb_O (rb_ids (rb_nd false A n (rb_nd false B m C)) ++ rb_ci c)) (hL : rb_L l r a (rb_nd false A n (rb_nd false B m C)) (rb_top c)) (hC : rb_C R l r a c n) (hZ : rb_Z v z w (rb_nd false A n (rb_nd false B m C))) (z0 : z 0 = 0) (w0 : w 0 = 0) (h : ∀ R' l' r' a' z' w', rb_L l' r' a' (rb_nd false (rb_nd false A n B) m C) (rb_top c) → rb_C R' l' r' a' c m → rb_Z v z' w' (rb_nd false (rb_nd false A n B) m C) → (∀ j, j ∉ rb_ids (rb_nd false A n (rb_nd false B m C)) → a' j = a j ∧ z' j = z j ∧ w' j = w j) → post (R', fr, cu, l', r', a', q, k, v, z', w')) : wpX_turnRight post (R, fr, cu, l, r, a, q, k, v, z, w) (nI n) := by
  have hO' := (rb_O_perm rb_tperm).mp hO
  obtain ⟨nm, jA, jB, jC, jX, dB, dX⟩ := rb_dj hO'.1
  have hN := hO'.2 n (by simp)
  have hM := hO'.2 m (by simp)
  have rB : ∀ j, j ∈ rb_ids B → 0 < j ∧ j < 49 := fun j hj => hO'.2 j (by simp [hj])
  have rB49 := rb_rt_lt rB
  obtain ⟨p1, p2, p3, hA, hBC⟩ := rb_L_nd.mp hL
  obtain ⟨p4, p5, p6, hB, hK⟩ := rb_L_nd.mp hBC
  obtain ⟨_, _, zA, zBC⟩ := rb_Z_nd.mp hZ
  obtain ⟨_, _, zB, zC⟩ := rb_Z_nd.mp zBC
  rw [rb_rt_nd] at p2
  have p1' : r n = nI (rb_rt A) := p1
  have p2' : l n = nI m := p2
  have p4' : r m = nI (rb_rt B) := p4
  have p5' : l m = nI (rb_rt C) := p5
  have hn' : ∀ j, j ∉ rb_ids (rb_nd false A n (rb_nd false B m C)) → j ≠ n ∧ j ≠ m ∧ j ∉ rb_ids B := by
    intro j hj
    rw [rb_mem_nd, rb_mem_nd] at hj
    exact ⟨fun e => hj (Or.inl e), fun e => hj (Or.inr (Or.inr (Or.inl e))), fun e => hj (Or.inr (Or.inr (Or.inr (Or.inl e))))⟩
  simp only [wpX_turnRight, rb_clm hN.2, p2', rb_clm hM.2, p4', rb_clm rB49, rb_le0 rB49, rb_rt_0 rB, forall_eq]
  refine ⟨rb_vi hN.2, rb_vi hM.2, rb_vi hN.2, rb_vi hM.2, br_c (fun e => ?_) (fun e => ⟨rb_vi hM.2, rb_vi rB49, ?_⟩)⟩
  · subst e
    refine rb_tRight40 (A := A) (B := rb_lf) (C := C) hO' (rb_C_fr c n hC (fun j hj => ⟨rb_un (jX j hj).1, rfl, rfl⟩)) p3 p1' rb_us ((rb_un (Ne.symm nm)).trans p5') (rb_L_fr A n hA (fun j hj => ⟨rb_un (jA j hj).1, rfl, rfl⟩)) True.intro (rb_L_fr C m hK (fun j hj => ⟨rb_un (jC j hj).1, rfl, rfl⟩)) zA zB zC z0 w0 ?_
    intro R' l' r' a' z' w' g1 g2 g3 g4
    exact h R' l' r' a' z' w' g1 g2 g3 (fun j hj => g4 j (hn' j hj).1 (hn' j hj).2.1)
  · have bm : rb_rt B ∈ rb_ids B := by
      rcases rb_rt_mem B with e' | e'
      · exact absurd ((rb_rt_0 rB).mp e') e
      · exact e'
    have jb := jB _ bm
    refine rb_tRight40 (A := A) (B := B) (C := C) hO' (rb_C_fr c n hC (fun j hj => ⟨rb_un (jX j hj).1, rfl, rb_un (fun e => jb.2.2.1 (e ▸ hj))⟩)) ((rb_un (Ne.symm jb.1)).trans p3) p1' rb_us ((rb_un (Ne.symm nm)).trans p5') (rb_L_fr A n hA (fun j hj => ⟨rb_un (jA j hj).1, rfl, rb_un (fun e => (jA j hj).2.2.2.1 (e ▸ bm))⟩)) (rb_L_re hB dB (fun j hj => ⟨rb_un (jB j hj).1, rfl, fun e => rb_un e⟩) (fun _ => rb_us)) (rb_L_fr C m hK (fun j hj => ⟨rb_un (jC j hj).1, rfl, rb_un (fun e => jb.2.2.2 (e ▸ hj))⟩)) zA zB zC z0 w0 ?_
    intro R' l' r' a' z' w' g1 g2 g3 g4
    refine h R' l' r' a' z' w' g1 g2 g3 (fun j hj => ?_)
    have g := g4 j (hn' j hj).1 (hn' j hj).2.1
    have jb2 : j ≠ rb_rt B := fun e => (hn' j hj).2.2 (by rw [e]; exact bm)
    rw [rb_un jb2] at g
    exact g
/-- the number of a truth value -/
def rb_bI (d : Bool) : Int32 := cond d 1 0
/-- a turn at n towards the side d, below any context -/
theorem rb_turn {post : SX → Prop} (d : Bool) {c : rb_X} {A B C : rb_T} {n m : Nat} (hO : rb_O (rb_ids (rb_pl c (rb_nd d A n (rb_nd d B m C))))) (hG : rb_G R l r a (rb_pl c (rb_nd d A n (rb_nd d B m C)))) (hZ : rb_Z v z w (rb_pl c (rb_nd d A n (rb_nd d B m C)))) (z0 : z 0 = 0) (w0 : w 0 = 0) (h : ∀ R' l' r' a' z' w', rb_G R' l' r' a' (rb_pl c (rb_nd d (rb_nd d A n B) m C)) → rb_Z v z' w' (rb_pl c (rb_nd d (rb_nd d A n B) m C)) → (∀ j, j ∉ rb_ids (rb_nd d A n (rb_nd d B m C)) → a' j = a j ∧ z' j = z j ∧ w' j = w j) → post (R', fr, cu, l', r', a', q, k, v, z', w')) : wpX_turn post (R, fr, cu, l, r, a, q, k, v, z, w) (nI n) (rb_bI d) := by
  have hO1 := rb_O_pl.mp hO
  obtain ⟨hL, hC⟩ := (rb_G_pl c _).mp hG
  obtain ⟨hZ1, hY, hS⟩ := (rb_Z_pl c _).mp hZ
  rw [rb_rt_nd] at hC
  have hd3 := (List.nodup_append.mp hO1.1).2.2
  have key : ∀ R' l' r' a' z' w', rb_L l' r' a' (rb_nd d (rb_nd d A n B) m C) (rb_top c) → rb_C R' l' r' a' c m → rb_Z v z' w' (rb_nd d (rb_nd d A n B) m C) → (∀ j, j ∉ rb_ids (rb_nd d A n (rb_nd d B m C)) → a' j = a j ∧ z' j = z j ∧ w' j = w j) → post (R', fr, cu, l', r', a', q, k, v, z', w') := by
    intro R' l' r' a' z' w' g1 g2 g3 g4
    have fx : ∀ j, j ∈ rb_ci c → v j = v j ∧ z' j = z j ∧ w' j = w j := fun j hj => ⟨rfl, (g4 j (fun e => hd3 j e j hj rfl)).2⟩
    refine h R' l' r' a' z' w' ((rb_G_pl c _).mpr ⟨g1, by rw [rb_rt_nd]; exact g2⟩) ((rb_Z_pl c _).mpr ⟨g3, rb_Y_fr c hY fx, ?_⟩) g4
    have e1 : (rb_ids (rb_nd d (rb_nd d A n B) m C)).length = (rb_ids (rb_nd d A n (rb_nd d B m C))).length := by simp only [rb_len_nd]; omega
    have e2 : rb_sm v (rb_ids (rb_nd d (rb_nd d A n B) m C)) = rb_sm v (rb_ids (rb_nd d A n (rb_nd d B m C))) := by simp only [rb_sm_nd]; grind
    rw [e1, e2]
    exact rb_S_fr c _ _ hS fx
  unfold wpX_turn
  dsimp only
  cases d with
  | true => exact br_f (by decide) (rb_turnLeft hO1 hL hC hZ1 z0 w0 key)
  | false => exact br_t rfl (rb_turnRight hO1 hL hC hZ1 z0 w0 key)
end
end
section
/-! settleAdded -/
theorem rb_n0 : vp_nar .boolean 0 = 0 := rfl
theorem rb_n1 : vp_nar .boolean 1 = 1 := rfl
theorem rb_rot_ids {d : Bool} {A B C : rb_T} {n m : Nat} : rb_ids (rb_nd d (rb_nd d A n B) m C) = rb_ids (rb_nd d A n (rb_nd d B m C)) := by
  cases d <;> simp [rb_nd_t, rb_nd_f, rb_ids_in]
theorem rb_pl_ids {c : rb_X} {t t' : rb_T} (h : rb_ids t = rb_ids t') : rb_ids (rb_pl c t) = rb_ids (rb_pl c t') := by
  rw [rb_ids_pl, rb_ids_pl, h]
theorem rb_nd_ids {d : Bool} {t t' s : rb_T} {n : Nat} (h : rb_ids t = rb_ids t') : rb_ids (rb_nd d t n s) = rb_ids (rb_nd d t' n s) :=
  rb_pl_ids (c := [(d, n, s)]) h
theorem rb_mem_pl {c : rb_X} {t : rb_T} {j : Nat} : j ∈ rb_ids (rb_pl c t) ↔ j ∈ rb_ids t ∨ j ∈ rb_ci c := by
  rw [(rb_perm c t).mem_iff, List.mem_append]
theorem rb_dj2 {t s u c : List Nat} {p g : Nat} (hd : (t ++ (p :: (s ++ (g :: (u ++ c))))).Nodup) : p ≠ g ∧ (∀ j, j ∈ t → j ≠ p ∧ j ≠ g ∧ j ∉ s ∧ j ∉ u ∧ j ∉ c) ∧ (∀ j, j ∈ s → j ≠ p ∧ j ≠ g ∧ j ∉ u ∧ j ∉ c) ∧ (∀ j, j ∈ u → j ≠ p ∧ j ≠ g ∧ j ∉ c) ∧ (∀ j, j ∈ c → j ≠ p ∧ j ≠ g) ∧ u.Nodup := by
  simp only [List.nodup_cons, List.nodup_append, List.mem_append, List.mem_cons, not_or] at hd
  grind
theorem rb_dju {d : Bool} {A B : rb_T} {n : Nat} (hd : (rb_ids (rb_nd d A n B)).Nodup) : n ∉ rb_ids A ∧ n ∉ rb_ids B ∧ (∀ j, j ∈ rb_ids A → j ∉ rb_ids B) := by
  have h := (rb_nd_perm.nodup_iff).mp hd
  simp only [List.nodup_cons, List.nodup_append, List.mem_append, not_or] at h
  grind
section
variable {R fr cu : Int32} {l r a q k v z : rb_A} {w : rb_W}
theorem rb_straighten {post : Int32 → SX → Prop} (d e : Bool) {c : rb_X} {A B s : rb_T} {n p : Nat} (hO : rb_O (rb_ids (rb_pl c (rb_nd e (rb_nd d A n B) p s)))) (hG : rb_G R l r a (rb_pl c (rb_nd e (rb_nd d A n B) p s))) (hZ : rb_Z v z w (rb_pl c (rb_nd e (rb_nd d A n B) p s))) (z0 : z 0 = 0) (w0 : w 0 = 0)
    (h1 : e = d → post (nI n) (R, fr, cu, l, r, a, q, k, v, z, w))
    (h2 : e = !d → ∀ R' l' r' a' z' w', rb_G R' l' r' a' (rb_pl c (rb_nd d (rb_nd d s p A) n B)) → rb_Z v z' w' (rb_pl c (rb_nd d (rb_nd d s p A) n B)) → (∀ j, j ∉ rb_ids (rb_nd e (rb_nd d A n B) p s) → a' j = a j ∧ z' j = z j ∧ w' j = w j) → post (nI p) (R', fr, cu, l', r', a', q, k, v, z', w')) :
    wpX_straighten post (R, fr, cu, l, r, a, q, k, v, z, w) (nI n) (nI p) (rb_bI d) := by
  have hO1 := rb_O_pl.mp hO
  obtain ⟨hL, hC⟩ := (rb_G_pl c _).mp hG
  obtain ⟨p1, p2, p3, p4, p5⟩ := rb_L_nd.mp hL
  rw [rb_rt_nd] at p1
  have hP := hO1.2 p (List.mem_append.mpr (Or.inl (rb_mem_nd.mpr (Or.inl rfl))))
  have hN := hO1.2 n (List.mem_append.mpr (Or.inl (rb_mem_nd.mpr (Or.inr (Or.inl (rb_mem_nd.mpr (Or.inl rfl)))))))
  have rs : ∀ j, j ∈ rb_ids s → 0 < j ∧ j < 49 := fun j hj => hO1.2 j (List.mem_append.mpr (Or.inl (rb_mem_nd.mpr (Or.inr (Or.inr hj)))))
  have dj := rb_dju (List.nodup_append.mp hO1.1).1
  have hsn : rb_rt s ≠ n := by
    rcases rb_rt_mem s with e' | e'
    · omega
    · exact fun e => dj.2.2 n (rb_mem_nd.mpr (Or.inl rfl)) (e ▸ e')
  unfold wpX_straighten
  dsimp only
  rw [rb_clm hP.2]
  refine ⟨rb_vi hP.2, ?_⟩
  cases e with
  | true =>
    have p2' : r p = nI (rb_rt s) := p2
    refine br_f (by rw [p2', rb_eqn (rb_rt_lt rs) hN.2]; exact hsn) ?_
    cases d with
    | true => exact br_f (by decide) (br_t rfl (h1 rfl))
    | false => exact br_t rfl (br_f (by decide) (rb_turn false (c := c) (A := s) (n := p) (B := A) (m := n) (C := B) hO hG hZ z0 w0 (h2 rfl)))
  | false =>
    have p1' : r p = nI n := p1
    refine br_t p1' ?_
    cases d with
    | false => exact br_f (by decide) (br_t rfl (h1 rfl))
    | true => exact br_t rfl (br_f (by decide) (rb_turn true (c := c) (A := s) (n := p) (B := A) (m := n) (C := B) hO hG hZ z0 w0 (h2 rfl)))
theorem rb_saExit {post : SX → Prop} {c : rb_X} {t : rb_T} {f i h : Nat} (ht : t ≠ rb_lf) (hO : rb_O (rb_ids (rb_pl c t))) (hG : rb_G R l r a (rb_pl c t)) (q0 : q 0 = 0) (hq : q (rb_top c) = 0) (hn1 : q (rb_rt t) = 1) (hB : rb_B q t h) (hK : rb_K q c h) (hp : ∀ q' H, rb_B q' (rb_pl c t) H → q' (rb_rt (rb_pl c t)) = 0 → q' 0 = 0 → post (R, fr, cu, l, r, a, q', k, v, z, w)) : wX_settleAdded_4 post (f + 1) (nI (rb_rt t)) (nI i) R fr cu l r a q k v z w := by
  have hO1 := rb_O_pl.mp hO
  have hL := ((rb_G_pl c t).mp hG).1
  obtain ⟨_, hR⟩ := hG
  have rT : rb_rt (rb_pl c t) < 49 := rb_rt_lt hO.2
  have r0 : 0 < rb_rt (rb_pl c t) := by
    have : rb_pl c t ≠ rb_lf := by
      intro e
      have h1 := rb_perm c t
      rw [e, rb_ids_lf] at h1
      have h2 := h1.length_eq
      have h3 := (rb_rt_mem t)
      rcases rb_cs t with e1 | ⟨A, n, B, e1⟩
      · exact ht e1
      · rw [e1, rb_ids_in] at h2; simp at h2
    have h1 : rb_rt (rb_pl c t) ≠ 0 := fun e => this ((rb_rt_0 hO.2).mp e)
    omega
  have fin : vp_in R 49 ∧ ∀ q' : rb_A, q' = upd q R.toNatClampNeg (vp_nar .boolean 0) → post (R, fr, cu, l, r, a, q', k, v, z, w) := by
    rw [hR] at hp ⊢
    refine ⟨rb_vi rT, nm_e ?_⟩
    rw [rb_clm rT, rb_n0]
    cases c with
    | nil =>
      rcases rb_cs t with e1 | ⟨A, n, B, rfl⟩
      · exact absurd e1 ht
      · have hd := (List.nodup_append.mp hO1.1).1
        obtain ⟨j1, j2, _⟩ := rb_dju (d := true) hd
        have hn := hO.2 n (by show n ∈ rb_ids (rb_in A n B); rw [rb_ids_in]; simp)
        rcases rb_B_in.mp hB with ⟨x0, _⟩ | ⟨x0, x1, x2, x3, x4⟩
        · exact absurd (x0.symm.trans hn1) (by decide)
        · refine hp _ (h + 1) (rb_B_in.mpr (Or.inl ⟨rb_us, h, rfl, rb_B_fr A h x3 (fun j hj => rb_un (fun e => j1 ((show j = n from e) ▸ hj))) (rb_un (by show 0 ≠ n; omega)), rb_B_fr B h x4 (fun j hj => rb_un (fun e => j2 ((show j = n from e) ▸ hj))) (rb_un (by show 0 ≠ n; omega))⟩)) rb_us ?_
          exact (rb_un (by show 0 ≠ n; omega)).trans q0
    | cons g c =>
      obtain ⟨H, hH, hr⟩ := rb_B_up (g :: c) t h hB hK (Or.inr ⟨List.cons_ne_nil _ _, hq⟩)
      have e : upd q (rb_rt (rb_pl (g :: c) t)) 0 = q := by
        funext j
        by_cases hj : j = rb_rt (rb_pl (g :: c) t)
        · rw [hj, rb_us]; exact hr.symm
        · exact rb_un hj
      rw [e]
      exact hp q H hH hr q0
  have ht49 : rb_rt t < 49 := rb_rt_lt (fun j hj => hO1.2 j (List.mem_append.mpr (Or.inl hj)))
  have ha : a (rb_rt t) = nI (rb_top c) := by
    rcases rb_cs t with e1 | ⟨A, n, B, rfl⟩
    · exact absurd e1 ht
    · exact (rb_L_in.mp hL).2.2.1
  have htop : rb_top c < 49 := by
    rcases rb_top_mem c with rfl | e
    · decide
    · exact (hO1.2 _ (List.mem_append.mpr (Or.inr e))).2
  refine br_c (fun _ => fin) (fun _ => ⟨rb_vi ht49, ?_⟩)
  rw [rb_clm ht49, ha, rb_clm htop]
  exact ⟨rb_vi htop, br_t hq fin⟩
/-- behind straighten: the upper red node y goes up over g -/
theorem rb_sa2 {post : SX → Prop} (d : Bool) {c : rb_X} {X Z u : rb_T} {y g f i h : Nat} (hX : X ≠ rb_lf) (hO : rb_O (rb_ids (rb_pl c (rb_nd d (rb_nd d X y Z) g u)))) (hG : rb_G R l r a (rb_pl c (rb_nd d (rb_nd d X y Z) g u))) (hZ : rb_Z v z w (rb_pl c (rb_nd d (rb_nd d X y Z) g u))) (z0 : z 0 = 0) (w0 : w 0 = 0) (q0 : q 0 = 0) (x1 : q (rb_rt X) = 1) (x2 : rb_B q X h) (x3 : rb_B q Z h) (x4 : q (rb_rt Z) = 0) (x5 : rb_B q u h) (x6 : q (rb_rt u) = 0) (x7 : rb_K q c (h + 1))
    (hp : ∀ R' l' r' a' q' z' w' T H, rb_ids T = rb_ids (rb_pl c (rb_nd d (rb_nd d X y Z) g u)) → rb_G R' l' r' a' T → rb_Z v z' w' T → rb_B q' T H → q' (rb_rt T) = 0 → q' 0 = 0 → (∀ j, j ∉ rb_ids T → a' j = a j ∧ z' j = z j ∧ w' j = w j) → post (R', fr, cu, l', r', a', q', k, v, z', w')) :
    vp_in (nI (rb_rt X)) 49 ∧ (vp_in (a (nI (rb_rt X)).toNatClampNeg) 49 ∧ ∀ q1 : rb_A, q1 = upd q (a (nI (rb_rt X)).toNatClampNeg).toNatClampNeg (vp_nar .boolean 0) → (vp_in (nI g) 49 ∧ ∀ q2 : rb_A, q2 = upd q1 (nI g).toNatClampNeg (vp_nar .boolean 1) → (((rb_bI d = 0 → (wX_settleAdded_167 post (wX_settleAdded_4 post (f + 1)) (nI (rb_rt X)) (nI i) 1 (nI g) R fr cu l r a q2 k v z w)) ∧ (¬ rb_bI d = 0 → (wX_settleAdded_167 post (wX_settleAdded_4 post (f + 1)) (nI (rb_rt X)) (nI i) 0 (nI g) R fr cu l r a q2 k v z w)))))) := by
  have hO1 : rb_O (rb_ids X ++ rb_ci ((d, y, Z) :: (d, g, u) :: c)) := rb_O_pl.mp hO
  rw [rb_ci, rb_ci] at hO1
  obtain ⟨yg, jX, jZ, ju, jc, _⟩ := rb_dj2 hO1.1
  have hL := ((rb_G_pl ((d, y, Z) :: (d, g, u) :: c) X).mp hG).1
  have ha : a (rb_rt X) = nI y := by
    rcases rb_cs X with e1 | ⟨A, n, B, rfl⟩
    · exact absurd e1 hX
    · exact (rb_L_in.mp hL).2.2.1
  have xm : rb_rt X ∈ rb_ids X := by
    rcases rb_cs X with e1 | ⟨A, n, B, rfl⟩
    · exact absurd e1 hX
    · rw [rb_rt_in, rb_ids_in]; simp
  have hx := hO1.2 _ (List.mem_append.mpr (Or.inl xm))
  have hy := hO1.2 y (by simp)
  have hg := hO1.2 g (by simp)
  rw [rb_clm hx.2, ha, rb_clm hy.2, rb_clm hg.2, rb_n0, rb_n1]
  refine ⟨rb_vi hx.2, rb_vi hy.2, nm_e ⟨rb_vi hg.2, nm_e ?_⟩⟩
  have fq : ∀ j, j ≠ y → j ≠ g → upd (upd q y 0) g 1 j = q j := fun j j1 j2 => by rw [rb_un j2, rb_un j1]
  have fq0 : upd (upd q y 0) g 1 0 = q 0 := fq 0 (by omega) (by omega)
  have eT : rb_nd d (rb_nd d X y Z) g u = rb_nd (!d) u g (rb_nd (!d) Z y X) := by rw [rb_nd_not, rb_nd_not]
  have eT2 : rb_nd (!d) (rb_nd (!d) u g Z) y X = rb_nd d X y (rb_nd d Z g u) := by rw [rb_nd_not, rb_nd_not]
  have eI : rb_ids (rb_pl ((d, y, rb_nd d Z g u) :: c) X) = rb_ids (rb_pl c (rb_nd d (rb_nd d X y Z) g u)) := by
    show rb_ids (rb_pl c (rb_nd d X y (rb_nd d Z g u))) = _
    exact rb_pl_ids rb_rot_ids.symm
  have main : wpX_turn (fun u => match u with | (f_root_38, f_free_39, f_cursor_40, a_left_41, a_right_42, a_above_43, a_red_44, a_keyOf_45, a_valueOf_46, a_size_47, a_total_48) => (∀ x3_49 : Int32, x3_49 = nI i + 1 → (wX_settleAdded_4 post (f + 1) (nI (rb_rt X)) x3_49 f_root_38 f_free_39 f_cursor_40 a_left_41 a_right_42 a_above_43 a_red_44 a_keyOf_45 a_valueOf_46 a_size_47 a_total_48))) (R, fr, cu, l, r, a, upd (upd q y 0) g 1, k, v, z, w) (nI g) (rb_bI (!d)) := by
    rw [eT] at hO hG hZ
    refine rb_turn (!d) hO hG hZ z0 w0 ?_
    rw [eT2, ← eT]
    intro R' l' r' a' z' w' g1 g2 g3
    refine nm_r (nI_1 i) ?_
    refine rb_saExit (c := (d, y, rb_nd d Z g u) :: c) (t := X) (h := h) hX (by rw [eI, eT]; exact hO) g1 (fq0.trans q0) ?_ ?_ ?_ ?_ ?_
    · show upd (upd q y 0) g 1 y = 0
      rw [rb_un yg, rb_us]
    · rw [fq _ (jX _ xm).1 (jX _ xm).2.1]; exact x1
    · exact rb_B_fr X h x2 (fun j hj => fq j (jX j hj).1 (jX j hj).2.1) fq0
    · have eZ := rb_q_rt (q' := upd (upd q y 0) g 1) (q := q) Z (fun j hj => fq j (jZ j hj).1 (jZ j hj).2.1) fq0
      have eu := rb_q_rt (q' := upd (upd q y 0) g 1) (q := q) u (fun j hj => fq j (ju j hj).1 (ju j hj).2.1) fq0
      refine ⟨rb_B_nd.mpr (Or.inr ⟨rb_us, eZ.trans x4, eu.trans x6, rb_B_fr Z h x3 (fun j hj => fq j (jZ j hj).1 (jZ j hj).2.1) fq0, rb_B_fr u h x5 (fun j hj => fq j (ju j hj).1 (ju j hj).2.1) fq0⟩), Or.inl ⟨?_, ?_⟩⟩
      · rw [rb_un yg, rb_us]
      · exact rb_K_fr c (h + 1) x7 (fun j hj => fq j (jc j hj).1 (jc j hj).2) fq0
    · intro q' H b1 b2 b3
      refine hp R' l' r' a' q' z' w' _ H eI g1 g2 b1 b2 b3 (fun j hj => g3 j (fun e => hj ?_))
      rw [eI, rb_mem_pl]; exact Or.inl e
  cases d with
  | true => exact br_f (by decide) main
  | false => exact br_t rfl main
theorem rb_saLoop {post : SX → Prop} : ∀ (f : Nat) (c : rb_X) (t : rb_T) (h i : Nat) (q : rb_A), t ≠ rb_lf → c.length < f → i + c.length ≤ 48 → rb_O (rb_ids (rb_pl c t)) → rb_G R l r a (rb_pl c t) → rb_Z v z w (rb_pl c t) → z 0 = 0 → w 0 = 0 → q 0 = 0 → q (rb_rt t) = 1 → rb_B q t h → rb_K q c h → (∀ R' l' r' a' q' z' w' T H, rb_ids T = rb_ids (rb_pl c t) → rb_G R' l' r' a' T → rb_Z v z' w' T → rb_B q' T H → q' (rb_rt T) = 0 → q' 0 = 0 → (∀ j, j ∉ rb_ids T → a' j = a j ∧ z' j = z j ∧ w' j = w j) → post (R', fr, cu, l', r', a', q', k, v, z', w')) → wX_settleAdded_4 post f (nI (rb_rt t)) (nI i) R fr cu l r a q k v z w := by
  intro f
  induction f with
  | zero => intro c t h i q _ hf; omega
  | succ f ih =>
    intro c t h i q ht hf hi hO hG hZ z0 w0 q0 qt hB hK hp
    by_cases hq : q (rb_top c) = 0
    · exact rb_saExit ht hO hG q0 hq qt hB hK (fun q' H b1 b2 b3 => hp R l r a q' z w _ H rfl hG hZ b1 b2 b3 (fun _ _ => ⟨rfl, rfl, rfl⟩))
    · cases c with
      | nil => exact absurd q0 hq
      | cons fr1 c1 =>
      obtain ⟨d1, p, s⟩ := fr1
      obtain ⟨k1, k2⟩ := hK
      rcases k2 with ⟨k3, _⟩ | ⟨k3, k4, k5, k6, k7⟩
      · exact absurd k3 hq
      cases c1 with
      | nil => exact absurd rfl k5
      | cons fr2 c2 =>
      obtain ⟨d2, g, u⟩ := fr2
      obtain ⟨m1, m2⟩ := k7
      have m4 : rb_K q c2 (h + 1) := by
        rcases m2 with ⟨m3, m4⟩ | ⟨m3, _⟩
        · exact m4
        · exact absurd (m3.symm.trans k6) (by decide)
      have hO1 : rb_O (rb_ids t ++ rb_ci ((d1, p, s) :: (d2, g, u) :: c2)) := rb_O_pl.mp hO
      rw [rb_ci, rb_ci] at hO1
      obtain ⟨pg, jt, js, ju, jc, du⟩ := rb_dj2 hO1.1
      obtain ⟨hL, hC⟩ := (rb_G_pl ((d1, p, s) :: (d2, g, u) :: c2) t).mp hG
      obtain ⟨c3, c4, c5, c6, hC2⟩ := rb_C_cons.mp hC
      obtain ⟨c7, c8, c9, c10, hC3⟩ := rb_C_cons.mp hC2
      have tm : rb_rt t ∈ rb_ids t := by
        rcases rb_cs t with e1 | ⟨A, n, B, rfl⟩
        · exact absurd e1 ht
        · rw [rb_rt_in, rb_ids_in]; simp
      have ha : a (rb_rt t) = nI p := by
        rcases rb_cs t with e1 | ⟨A, n, B, rfl⟩
        · exact absurd e1 ht
        · exact (rb_L_in.mp hL).2.2.1
      have hn := hO1.2 _ (List.mem_append.mpr (Or.inl tm))
      have hP := hO1.2 p (by simp)
      have hg := hO1.2 g (by simp)
      have ru : ∀ j, j ∈ rb_ids u → 0 < j ∧ j < 49 := fun j hj => hO1.2 j (by simp [hj])
      have ru49 := rb_rt_lt ru
      have up : rb_rt u ≠ p := by
        rcases rb_rt_mem u with e | e
        · omega
        · exact (ju _ e).1
      have ha' : a p = nI g := c5
      simp only [List.length_cons] at hf hi
      have hqp : ¬ q p = 0 := hq
      refine br_f (by rw [rb_48 (by omega)]; omega) ⟨rb_vi hn.2, ?_⟩
      rw [rb_clm hn.2, ha, rb_clm hP.2]
      refine ⟨rb_vi hP.2, br_f hqp ⟨rb_vi hn.2, nm_e ⟨rb_vi hP.2, ?_⟩⟩⟩
      rw [rb_clm hP.2, ha']
      refine nm_e ⟨rb_vi hg.2, ?_⟩
      rw [rb_clm hg.2]
      have main : wX_settleAdded_82 post (wX_settleAdded_4 post f) (nI (rb_rt t)) (nI i) (nI p) (nI g) (rb_bI d2) (nI (rb_rt u)) R fr cu l r a q k v z w := by
        unfold wX_settleAdded_82
        rw [rb_clm ru49]
        refine ⟨rb_vi ru49, br_c (fun hu => ?_) (fun hu => ⟨rb_vi hP.2, nm_e ⟨rb_vi ru49, nm_e ⟨rb_vi hg.2, nm_e (nm_r (nI_1 i) ?_)⟩⟩⟩)⟩
        · obtain ⟨f, rfl⟩ : ∃ g, f = g + 1 := ⟨f - 1, by omega⟩
          obtain ⟨A, n, B, e⟩ := rb_in_nd d2 t ht
          have en : rb_rt t = n := by rw [e, rb_rt_nd]
          rw [en]
          subst e
          rw [en] at qt
          refine rb_straighten d2 d1 (c := (d2, g, u) :: c2) hO hG hZ z0 w0 ?_ ?_
          · intro e1
            subst e1
            have h2 := rb_sa2 (fr := fr) (cu := cu) (k := k) (q := q) (f := f) (i := i) (h := h) (post := post) d1 (c := c2) (X := rb_nd d1 A n B) (y := p) (Z := s) (g := g) (u := u) ht hO hG hZ z0 w0 q0 (by rw [rb_rt_nd]; exact qt) hB k1 k4 m1 hu m4 hp
            rw [rb_rt_nd] at h2
            exact h2
          · intro e1 R' l' r' a' z' w' g1 g2 g3
            have eI : rb_ids (rb_pl c2 (rb_nd d2 (rb_nd d2 (rb_nd d2 s p A) n B) g u)) = rb_ids (rb_pl ((d1, p, s) :: (d2, g, u) :: c2) (rb_nd d2 A n B)) := by
              show _ = rb_ids (rb_pl c2 (rb_nd d2 (rb_nd d1 (rb_nd d2 A n B) p s) g u))
              refine rb_pl_ids (rb_nd_ids ?_)
              rw [e1, rb_nd_not, rb_rot_ids]
            have sub : ∀ j, j ∈ rb_ids (rb_nd d1 (rb_nd d2 A n B) p s) → j ∈ rb_ids (rb_pl ((d1, p, s) :: (d2, g, u) :: c2) (rb_nd d2 A n B)) := fun j e => (rb_mem_pl (c := (d2, g, u) :: c2) (t := rb_nd d1 (rb_nd d2 A n B) p s)).mpr (Or.inl e)
            have zz : z' 0 = 0 ∧ w' 0 = 0 := by
              have g4 := g3 0 (fun e => absurd (hO.2 0 (sub 0 e)).1 (by omega))
              exact ⟨g4.2.1.trans z0, g4.2.2.trans w0⟩
            rcases rb_B_nd.mp hB with ⟨b0, _⟩ | ⟨b0, b1, b2, b3, b4⟩
            · exact absurd (b0.symm.trans qt) (by decide)
            have h2 := rb_sa2 (R := R') (l := l') (r := r') (a := a') (z := z') (w := w') (v := v) (fr := fr) (cu := cu) (k := k) (q := q) (f := f) (i := i) (h := h) (post := post) d2 (c := c2) (X := rb_nd d2 s p A) (y := n) (Z := B) (g := g) (u := u) rb_nd_ne (by rw [eI]; exact hO) g1 g2 zz.1 zz.2 q0 (by rw [rb_rt_nd]; exact k3) (rb_B_nd.mpr (Or.inr ⟨k3, k4, b1, k1, b3⟩)) b4 b2 m1 hu m4 (fun R'' l'' r'' a'' q'' z'' w'' T H o1 o2 o3 o4 o5 o6 o7 => hp R'' l'' r'' a'' q'' z'' w'' T H (o1.trans eI) o2 o3 o4 o5 o6 (fun j hj => by
                have g5 := g3 j (fun e => hj (by rw [o1, eI]; exact sub j e))
                have g6 := o7 j hj
                exact ⟨g6.1.trans g5.1, g6.2.1.trans g5.2.1, g6.2.2.trans g5.2.2⟩))
            rw [rb_rt_nd] at h2
            exact h2
        · rw [rb_clm hP.2, rb_clm hg.2, rb_n0, rb_n1]
          rcases rb_cs u with e | ⟨U1, m, U2, e⟩
          · exact absurd (by rw [e]; exact q0) hu
          have em : rb_rt u = m := by rw [e]; rfl
          have mm : m ∈ rb_ids u := by rw [e, rb_ids_in]; simp
          rw [em]
          rw [e] at du m1
          obtain ⟨ju1, ju2, _⟩ := rb_dju (d := true) du
          rcases rb_B_in.mp m1 with ⟨b0, _⟩ | ⟨b0, b1, b2, b3, b4⟩
          · exact absurd (by rw [em]; exact b0) hu
          have hm := ru m mm
          have fq : ∀ j, j ≠ p → j ≠ m → j ≠ g → upd (upd (upd q p 0) m 0) g 1 j = q j := fun j j1 j2 j3 => by rw [rb_un j3, rb_un j2, rb_un j1]
          have fq0 : upd (upd (upd q p 0) m 0) g 1 0 = q 0 := fq 0 (by omega) (by omega) (by omega)
          have jm := ju m mm
          have U1s : ∀ j, j ∈ rb_ids U1 → j ∈ rb_ids u := fun j hj => by rw [e, rb_ids_in]; simp [hj]
          have U2s : ∀ j, j ∈ rb_ids U2 → j ∈ rb_ids u := fun j hj => by rw [e, rb_ids_in]; simp [hj]
          have ft : ∀ j, j ∈ rb_ids t → upd (upd (upd q p 0) m 0) g 1 j = q j := fun j hj => fq j (jt j hj).1 (fun e' => (jt j hj).2.2.2.1 (e' ▸ mm)) (jt j hj).2.1
          have fs : ∀ j, j ∈ rb_ids s → upd (upd (upd q p 0) m 0) g 1 j = q j := fun j hj => fq j (js j hj).1 (fun e' => (js j hj).2.2.1 (e' ▸ mm)) (js j hj).2.1
          have f1 : ∀ j, j ∈ rb_ids U1 → upd (upd (upd q p 0) m 0) g 1 j = q j := fun j hj => fq j (ju j (U1s j hj)).1 (fun e' => ju1 (e' ▸ hj)) (ju j (U1s j hj)).2.1
          have f2 : ∀ j, j ∈ rb_ids U2 → upd (upd (upd q p 0) m 0) g 1 j = q j := fun j hj => fq j (ju j (U2s j hj)).1 (fun e' => ju2 (e' ▸ hj)) (ju j (U2s j hj)).2.1
          have fc : ∀ j, j ∈ rb_ci c2 → upd (upd (upd q p 0) m 0) g 1 j = q j := fun j hj => fq j (jc j hj).1 (fun e' => jm.2.2 (e' ▸ hj)) (jc j hj).2
          have qp : upd (upd (upd q p 0) m 0) g 1 p = 0 := by rw [rb_un pg, rb_un (Ne.symm jm.1), rb_us]
          have qm : upd (upd (upd q p 0) m 0) g 1 m = 0 := by rw [rb_un jm.2.1, rb_us]
          have hgo := ih c2 (rb_nd d2 (rb_nd d1 t p s) g u) (h + 1) (i + 1) (upd (upd (upd q p 0) m 0) g 1) rb_nd_ne (by omega) (by omega) hO hG hZ z0 w0 (fq0.trans q0) (by rw [rb_rt_nd, rb_us]) ?_ (rb_K_fr c2 (h + 1) m4 fc fq0) hp
          · rw [rb_rt_nd] at hgo; exact hgo
          · refine rb_B_nd.mpr (Or.inr ⟨rb_us, by rw [rb_rt_nd]; exact qp, by rw [em]; exact qm, rb_B_nd.mpr (Or.inl ⟨qp, h, rfl, rb_B_fr t h hB ft fq0, rb_B_fr s h k1 fs fq0⟩), ?_⟩)
            rw [e]
            exact rb_B_in.mpr (Or.inl ⟨qm, h, rfl, rb_B_fr U1 h b3 f1 fq0, rb_B_fr U2 h b4 f2 fq0⟩)
      cases d2 with
      | true =>
        have c7' : l g = nI p := c7
        have c8' : r g = nI (rb_rt u) := c8
        refine br_t c7' (br_f (by decide) ⟨rb_vi hg.2, ?_⟩)
        rw [rb_clm hg.2, c8']; exact main
      | false =>
        have c8' : l g = nI (rb_rt u) := c8
        refine br_f (by rw [c8', rb_eqn ru49 hP.2]; exact up) (br_t rfl ⟨rb_vi hg.2, ?_⟩)
        rw [rb_clm hg.2, c8']; exact main
end
end
section
/-! settleBySister and settleRemoved -/
theorem rb_nq {x : Int32} (h : x = 0 ∨ x = 1) : vp_nar .boolean x = x := by
  rcases h with rfl | rfl <;> rfl
theorem rb_rt_pl : ∀ (c : rb_X) (t : rb_T), c ≠ [] → rb_rt (rb_pl c t) ∈ rb_ci c
  | [], _, h => absurd rfl h
  | (d, n, s) :: c, t, _ => by
    rw [rb_pl, rb_ci]
    by_cases e : c = []
    · subst e
      show rb_rt (rb_nd d t n s) ∈ _
      rw [rb_rt_nd]; exact List.mem_cons_self
    · have := rb_rt_pl c (rb_nd d t n s) e
      exact List.mem_cons_of_mem _ (List.mem_append.mpr (Or.inr this))
/-- what a subtree at the place that wants a black may be: its root's colour doesn't matter -/
def rb_Bw (q : rb_A) (t : rb_T) (h : Nat) : Prop := (t = rb_lf ∧ h = 0) ∨ ∃ A n B i, t = rb_in A n B ∧ rb_B q A i ∧ rb_B q B i ∧ ((q n = 0 ∧ h = i + 1) ∨ (q n = 1 ∧ h = i))
section
variable {R fr cu : Int32} {l r a q k v z : rb_A} {w : rb_W}
theorem rb_Bw_of {t : rb_T} {h : Nat} (hB : rb_B q t h) : rb_Bw q t h := by
  rcases rb_cs t with rfl | ⟨A, n, B, rfl⟩
  · exact Or.inl ⟨rfl, hB⟩
  · refine Or.inr ?_
    rcases rb_B_in.mp hB with ⟨x0, i, x1, x2, x3⟩ | ⟨x0, x1, x2, x3, x4⟩
    · exact ⟨A, n, B, i, rfl, x2, x3, Or.inl ⟨x0, x1⟩⟩
    · exact ⟨A, n, B, h, rfl, x3, x4, Or.inr ⟨x0, rfl⟩⟩
theorem rb_Bw_nd {d : Bool} {A B : rb_T} {n i h : Nat} (b1 : rb_B q A i) (b2 : rb_B q B i) (b3 : (q n = 0 ∧ h = i + 1) ∨ (q n = 1 ∧ h = i)) : rb_Bw q (rb_nd d A n B) h := by
  cases d with
  | true => exact Or.inr ⟨A, n, B, i, rfl, b1, b2, b3⟩
  | false => exact Or.inr ⟨B, n, A, i, rfl, b2, b1, b3⟩
theorem rb_Bw_0 {t : rb_T} {h : Nat} (hB : rb_Bw q t h) (h0 : q (rb_rt t) = 0) : rb_B q t h := by
  rcases hB with ⟨rfl, rfl⟩ | ⟨A, n, B, i, rfl, b1, b2, b3⟩
  · exact rfl
  · rcases b3 with ⟨b3, b4⟩ | ⟨b3, b4⟩
    · exact rb_B_in.mpr (Or.inl ⟨b3, i, b4, b1, b2⟩)
    · exact absurd (b3.symm.trans h0) rb_01
theorem rb_Bw_q {t : rb_T} {h : Nat} (q0 : q 0 = 0) (hB : rb_Bw q t h) : q (rb_rt t) = 0 ∨ q (rb_rt t) = 1 := by
  rcases hB with ⟨rfl, rfl⟩ | ⟨A, n, B, i, rfl, b1, b2, b3⟩
  · exact Or.inl q0
  · rcases b3 with ⟨b3, b4⟩ | ⟨b3, b4⟩
    · exact Or.inl b3
    · exact Or.inr b3
/-- the root of the subtree is made black: all is well -/
theorem rb_srFin {c : rb_X} {t : rb_T} {h : Nat} (hO : rb_O (rb_ids (rb_pl c t))) (q0 : q 0 = 0) (hB : rb_Bw q t h) (hK : rb_K q c (h + 1)) (hc : c = [] ∨ ¬ q (rb_rt t) = 0) : ∃ H, rb_B (upd q (rb_rt t) 0) (rb_pl c t) H ∧ (upd q (rb_rt t) 0) (rb_rt (rb_pl c t)) = 0 ∧ (upd q (rb_rt t) 0) 0 = 0 := by
  have hO1 := rb_O_pl.mp hO
  have z0 : (upd q (rb_rt t) 0) 0 = 0 := by
    by_cases e : 0 = rb_rt t
    · rw [← e]; exact rb_us
    · rw [rb_un e]; exact q0
  rcases hB with ⟨e1, e2⟩ | ⟨A, n, B, i, e1, b1, b2, b3⟩
  · subst e1
    rcases hc with rfl | hc
    · exact ⟨0, rfl, rb_us, z0⟩
    · exact absurd q0 hc
  · subst e1
    obtain ⟨j1, j2, _⟩ := rb_dju (d := true) (List.nodup_append.mp hO1.1).1
    have hn := hO1.2 n (List.mem_append.mpr (Or.inl (by rw [rb_ids_in]; simp)))
    have f0 : upd q n 0 0 = q 0 := rb_un (by omega)
    have hB' : rb_B (upd q n 0) (rb_in A n B) (i + 1) := rb_B_in.mpr (Or.inl ⟨rb_us, i, rfl, rb_B_fr A i b1 (fun j hj => rb_un (fun e => j1 (e ▸ hj))) f0, rb_B_fr B i b2 (fun j hj => rb_un (fun e => j2 (e ▸ hj))) f0⟩)
    rcases hc with rfl | hc
    · exact ⟨i + 1, hB', rb_us, z0⟩
    · rcases b3 with ⟨b3, _⟩ | ⟨b3, b4⟩
      · exact absurd b3 hc
      · subst b4
        have d3 := (List.nodup_append.mp hO1.1).2.2
        obtain ⟨H, g1, g2⟩ := rb_B_up c (rb_in A n B) (h + 1) hB' (rb_K_fr c (h + 1) hK (fun j hj => rb_un (fun e => d3 n (by rw [rb_ids_in]; simp) j hj e.symm)) f0) (Or.inl rb_us)
        exact ⟨H, g1, g2, z0⟩
theorem rb_srE {post : SX → Prop} {f n : Nat} {x : Int32} (hn : n < 49) (hq : ¬ q n = 0) (fin : post (R, fr, cu, l, r, a, upd q n 0, k, v, z, w)) : wX_settleRemoved_4 post (f + 1) (nI n) x R fr cu l r a q k v z w := by
  have fin' : vp_in (nI n) 49 ∧ ∀ q' : rb_A, q' = upd q (nI n).toNatClampNeg (vp_nar .boolean 0) → post (R, fr, cu, l, r, a, q', k, v, z, w) := by
    rw [rb_clm hn, rb_n0]; exact ⟨rb_vi hn, nm_e fin⟩
  refine br_c (fun _ => fin') (fun _ => br_c (fun _ => fin') (fun _ => ⟨rb_vi hn, br_f ?_ fin'⟩))
  rw [rb_clm hn]; exact hq
theorem rb_srRoot {post : SX → Prop} {f n : Nat} {x : Int32} (hn : n < 49) (hR : R = nI n) (fin : post (R, fr, cu, l, r, a, upd q n 0, k, v, z, w)) : wX_settleRemoved_4 post (f + 1) (nI n) x R fr cu l r a q k v z w := by
  have fin' : vp_in (nI n) 49 ∧ ∀ q' : rb_A, q' = upd q (nI n).toNatClampNeg (vp_nar .boolean 0) → post (R, fr, cu, l, r, a, q', k, v, z, w) := by
    rw [rb_clm hn, rb_n0]; exact ⟨rb_vi hn, nm_e fin⟩
  exact br_c (fun _ => fin') (fun _ => br_t hR.symm fin')
/-- the last turn: x goes up over p with p's colour -/
theorem rb_sb111 {post : SX → Prop} (d e : Bool) {c : rb_X} {t Y W1 W2 : rb_T} {p x m h : Nat} (hO : rb_O (rb_ids (rb_pl c (rb_nd d t p (rb_nd d Y x (rb_nd e W1 m W2)))))) (hG : rb_G R l r a (rb_pl c (rb_nd d t p (rb_nd d Y x (rb_nd e W1 m W2))))) (hZ : rb_Z v z w (rb_pl c (rb_nd d t p (rb_nd d Y x (rb_nd e W1 m W2))))) (z0 : z 0 = 0) (w0 : w 0 = 0) (q0 : q 0 = 0) (b1 : rb_B q t h) (b2 : rb_B q Y h) (b3 : rb_B q W1 h) (b4 : rb_B q W2 h) (hK : (q p = 0 ∧ rb_K q c (h + 2)) ∨ (q p = 1 ∧ c ≠ [] ∧ q (rb_top c) = 0 ∧ rb_K q c (h + 1)))
    (hp : ∀ R' l' r' a' q' z' w' T H, rb_ids T = rb_ids (rb_pl c (rb_nd d t p (rb_nd d Y x (rb_nd e W1 m W2)))) → rb_G R' l' r' a' T → rb_Z v z' w' T → rb_B q' T H → q' (rb_rt T) = 0 → q' 0 = 0 → (∀ j, j ∉ rb_ids T → a' j = a j ∧ z' j = z j ∧ w' j = w j) → post (R', fr, cu, l', r', a', q', k, v, z', w')) :
    wX_settleBySister_111 post (nI p) (rb_bI d) (nI x) R fr cu l r a q k v z w := by
  have hO1 := rb_O_pl.mp hO
  have hO2 := (rb_O_perm rb_tperm).mp hO1
  obtain ⟨px, jt, jY, jW, jc, _, _⟩ := rb_dj hO2.1
  have hP := hO2.2 p (by simp)
  have hX := hO2.2 x (by simp)
  have mW : m ∈ rb_ids (rb_nd e W1 m W2) := rb_mem_nd.mpr (Or.inl rfl)
  have hM := hO2.2 m (by simp [mW])
  have dW : (rb_ids (rb_nd e W1 m W2)).Nodup := by
    have h1 := hO2.1
    simp only [List.nodup_cons, List.nodup_append] at h1
    exact h1.2.2.2.1.2.1.1
  obtain ⟨i1, i2, _⟩ := rb_dju dW
  have s1 : ∀ j, j ∈ rb_ids W1 → j ∈ rb_ids (rb_nd e W1 m W2) := fun j hj => rb_mem_nd.mpr (Or.inr (Or.inl hj))
  have s2 : ∀ j, j ∈ rb_ids W2 → j ∈ rb_ids (rb_nd e W1 m W2) := fun j hj => rb_mem_nd.mpr (Or.inr (Or.inr hj))
  have qp : q p = 0 ∨ q p = 1 := by
    rcases hK with h1 | h1
    · exact Or.inl h1.1
    · exact Or.inr h1.1
  obtain ⟨hL, hC⟩ := (rb_G_pl c _).mp hG
  obtain ⟨_, _, _, _, hL2⟩ := rb_L_nd.mp hL
  obtain ⟨_, g2, _, _, _⟩ := rb_L_nd.mp hL2
  rw [rb_rt_nd] at g2
  unfold wX_settleBySister_111
  rw [rb_clm hP.2, rb_clm hX.2, rb_nq qp, rb_n0]
  refine ⟨rb_vi hP.2, rb_vi hX.2, nm_e ⟨rb_vi hP.2, nm_e ?_⟩⟩
  have main : wX_settleBySister_156 post (nI p) (rb_bI d) (nI m) R fr cu l r a (upd (upd q x (q p)) p 0) k v z w := by
    unfold wX_settleBySister_156
    rw [rb_clm hM.2, rb_n0]
    refine ⟨rb_vi hM.2, nm_e (rb_turn d hO hG hZ z0 w0 ?_)⟩
    intro R' l' r' a' z' w' g3 g4 g5
    have jm := jW m mW
    have fq : ∀ j, j ≠ x → j ≠ p → j ≠ m → upd (upd (upd q x (q p)) p 0) m 0 j = q j := fun j j1 j2 j3 => by rw [rb_un j3, rb_un j2, rb_un j1]
    have fq0 : upd (upd (upd q x (q p)) p 0) m 0 0 = q 0 := fq 0 (by omega) (by omega) (by omega)
    have qx : upd (upd (upd q x (q p)) p 0) m 0 x = q p := by rw [rb_un (Ne.symm jm.2.1), rb_un (Ne.symm px), rb_us]
    have qpp : upd (upd (upd q x (q p)) p 0) m 0 p = 0 := by rw [rb_un (Ne.symm jm.1), rb_us]
    have qm : upd (upd (upd q x (q p)) p 0) m 0 m = 0 := rb_us
    have ft := rb_B_fr t h b1 (fun j hj => fq j (jt j hj).2.1 (jt j hj).1 (fun e => (jt j hj).2.2.2.2 (e ▸ mW))) fq0
    have fY := rb_B_fr Y h b2 (fun j hj => fq j (jY j hj).2.1 (jY j hj).1 (fun e => (jY j hj).2.2.2 (e ▸ mW))) fq0
    have f1 := rb_B_fr W1 h b3 (fun j hj => fq j (jW j (s1 j hj)).2.1 (jW j (s1 j hj)).1 (fun e => i1 (e ▸ hj))) fq0
    have f2 := rb_B_fr W2 h b4 (fun j hj => fq j (jW j (s2 j hj)).2.1 (jW j (s2 j hj)).1 (fun e => i2 (e ▸ hj))) fq0
    have fc : ∀ j, j ∈ rb_ci c → upd (upd (upd q x (q p)) p 0) m 0 j = q j := fun j hj => fq j (jc j hj).2 (jc j hj).1 (fun e => jm.2.2 (e ▸ hj))
    have bp : rb_B (upd (upd (upd q x (q p)) p 0) m 0) (rb_nd d t p Y) (h + 1) := rb_B_nd.mpr (Or.inl ⟨qpp, h, rfl, ft, fY⟩)
    have bw : rb_B (upd (upd (upd q x (q p)) p 0) m 0) (rb_nd e W1 m W2) (h + 1) := rb_B_nd.mpr (Or.inl ⟨qm, h, rfl, f1, f2⟩)
    have fin : ∃ H, rb_B (upd (upd (upd q x (q p)) p 0) m 0) (rb_pl c (rb_nd d (rb_nd d t p Y) x (rb_nd e W1 m W2))) H ∧ (upd (upd (upd q x (q p)) p 0) m 0) (rb_rt (rb_pl c (rb_nd d (rb_nd d t p Y) x (rb_nd e W1 m W2)))) = 0 := by
      rcases hK with ⟨k1, k2⟩ | ⟨k1, k2, k3, k4⟩
      · refine rb_B_up c _ (h + 2) (rb_B_nd.mpr (Or.inl ⟨qx.trans k1, h + 1, rfl, bp, bw⟩)) (rb_K_fr c _ k2 fc fq0) (Or.inl ?_)
        rw [rb_rt_nd]; exact qx.trans k1
      · refine rb_B_up c _ (h + 1) (rb_B_nd.mpr (Or.inr ⟨qx.trans k1, by rw [rb_rt_nd]; exact qpp, by rw [rb_rt_nd]; exact qm, bp, bw⟩)) (rb_K_fr c _ k4 fc fq0) (Or.inr ⟨k2, ?_⟩)
        exact (rb_q_top c fc fq0).trans k3
    obtain ⟨H, e1, e2⟩ := fin
    refine hp R' l' r' a' _ z' w' _ H (rb_pl_ids rb_rot_ids) g3 g4 e1 e2 (fq0.trans q0) (fun j hj => g5 j (fun e => hj ?_))
    rw [rb_pl_ids rb_rot_ids, rb_mem_pl]; exact Or.inl e
  cases d with
  | true =>
    have g2' : r x = nI m := g2
    refine br_f (by decide) ⟨rb_vi hX.2, ?_⟩
    rw [g2']; exact main
  | false =>
    have g2' : l x = nI m := g2
    refine br_t rfl ⟨rb_vi hX.2, ?_⟩
    rw [g2']; exact main
theorem rb_sister {post : SX → Prop} (d : Bool) {c : rb_X} {t B C : rb_T} {p o h : Nat} (hO : rb_O (rb_ids (rb_pl c (rb_nd d t p (rb_nd d B o C))))) (hG : rb_G R l r a (rb_pl c (rb_nd d t p (rb_nd d B o C)))) (hZ : rb_Z v z w (rb_pl c (rb_nd d t p (rb_nd d B o C)))) (z0 : z 0 = 0) (w0 : w 0 = 0) (q0 : q 0 = 0) (b1 : rb_B q t h) (b2 : rb_B q B h) (b3 : rb_B q C h) (hn : ¬ (q (rb_rt B) = 0 ∧ q (rb_rt C) = 0)) (hK : (q p = 0 ∧ rb_K q c (h + 2)) ∨ (q p = 1 ∧ c ≠ [] ∧ q (rb_top c) = 0 ∧ rb_K q c (h + 1)))
    (hp : ∀ R' l' r' a' q' z' w' T H, rb_ids T = rb_ids (rb_pl c (rb_nd d t p (rb_nd d B o C))) → rb_G R' l' r' a' T → rb_Z v z' w' T → rb_B q' T H → q' (rb_rt T) = 0 → q' 0 = 0 → (∀ j, j ∉ rb_ids T → a' j = a j ∧ z' j = z j ∧ w' j = w j) → post (R', fr, cu, l', r', a', q', k, v, z', w')) :
    wpX_settleBySister post (R, fr, cu, l, r, a, q, k, v, z, w) (nI p) (nI o) (rb_bI d) := by
  have hO1 := rb_O_pl.mp hO
  have hO2 := (rb_O_perm rb_tperm).mp hO1
  obtain ⟨po, jt, jB, jC, jc, dB, _⟩ := rb_dj hO2.1
  have hP := hO2.2 p (by simp)
  have hX := hO2.2 o (by simp)
  have rB : ∀ j, j ∈ rb_ids B → 0 < j ∧ j < 49 := fun j hj => hO2.2 j (by simp [hj])
  have rC : ∀ j, j ∈ rb_ids C → 0 < j ∧ j < 49 := fun j hj => hO2.2 j (by simp [hj])
  have rB49 := rb_rt_lt rB
  have rC49 := rb_rt_lt rC
  obtain ⟨hL, hC⟩ := (rb_G_pl c _).mp hG
  obtain ⟨_, _, _, _, hL2⟩ := rb_L_nd.mp hL
  obtain ⟨g1, g2, _, _, _⟩ := rb_L_nd.mp hL2
  have main : wX_settleBySister_24 post (nI p) (rb_bI d) (nI o) (nI (rb_rt C)) R fr cu l r a q k v z w := by
    unfold wX_settleBySister_24
    rw [rb_clm rC49, rb_clm hX.2]
    refine ⟨rb_vi rC49, br_c (fun hc => ?_) (fun hc => ?_)⟩
    · have hb : ¬ q (rb_rt B) = 0 := fun e => hn ⟨e, hc⟩
      have hBl : B ≠ rb_lf := fun e => hb (by rw [e]; exact q0)
      obtain ⟨B1, b, B2, eB⟩ := rb_in_nd d B hBl
      have eb : rb_rt B = b := by rw [eB, rb_rt_nd]
      have bm : b ∈ rb_ids B := by rw [eB]; exact rb_mem_nd.mpr (Or.inl rfl)
      have hb49 := rB b bm
      have jb := jB b bm
      have main2 : wX_settleBySister_57 post (nI p) (rb_bI d) (nI o) (nI b) R fr cu l r a q k v z w := by
        unfold wX_settleBySister_57
        rw [rb_clm hb49.2, rb_clm hX.2, rb_n0, rb_n1]
        refine ⟨rb_vi hb49.2, nm_e ⟨rb_vi hX.2, nm_e ?_⟩⟩
        rw [eB] at dB b2
        obtain ⟨i1, i2, _⟩ := rb_dju dB
        have s1 : ∀ j, j ∈ rb_ids B1 → j ∈ rb_ids B := fun j hj => by rw [eB]; exact rb_mem_nd.mpr (Or.inr (Or.inl hj))
        have s2 : ∀ j, j ∈ rb_ids B2 → j ∈ rb_ids B := fun j hj => by rw [eB]; exact rb_mem_nd.mpr (Or.inr (Or.inr hj))
        rcases rb_B_nd.mp b2 with ⟨y0, _⟩ | ⟨y0, y1, y2, y3, y4⟩
        · exact absurd (by rw [eb]; exact y0) hb
        have fq : ∀ j, j ≠ b → j ≠ o → upd (upd q b 0) o 1 j = q j := fun j j1 j2 => by rw [rb_un j2, rb_un j1]
        have fq0 : upd (upd q b 0) o 1 0 = q 0 := fq 0 (by omega) (by omega)
        have fc : ∀ j, j ∈ rb_ci c → upd (upd q b 0) o 1 j = q j := fun j hj => fq j (fun e => jb.2.2.1 (e ▸ hj)) (jc j hj).2
        have qp : upd (upd q b 0) o 1 p = q p := fq p (Ne.symm jb.1) po
        have eT : rb_pl c (rb_nd d t p (rb_nd d B o C)) = rb_pl ((!d, p, t) :: c) (rb_nd (!d) C o (rb_nd (!d) B2 b B1)) := by
          show _ = rb_pl c (rb_nd (!d) (rb_nd (!d) C o (rb_nd (!d) B2 b B1)) p t)
          rw [rb_nd_not, rb_nd_not, rb_nd_not, ← eB]
        have eT2 : rb_pl ((!d, p, t) :: c) (rb_nd (!d) (rb_nd (!d) C o B2) b B1) = rb_pl c (rb_nd d t p (rb_nd d B1 b (rb_nd d B2 o C))) := by
          show rb_pl c (rb_nd (!d) (rb_nd (!d) (rb_nd (!d) C o B2) b B1) p t) = _
          rw [rb_nd_not, rb_nd_not, rb_nd_not]
        have eI : rb_ids (rb_pl c (rb_nd d t p (rb_nd d B1 b (rb_nd d B2 o C)))) = rb_ids (rb_pl c (rb_nd d t p (rb_nd d B o C))) := by
          rw [eT, ← eT2]; exact rb_pl_ids rb_rot_ids
        have main3 : wX_settleBySister_87 post (nI p) (rb_bI d) (rb_bI (!d)) (nI o) R fr cu l r a (upd (upd q b 0) o 1) k v z w := by
          unfold wX_settleBySister_87
          have sub : ∀ j, j ∈ rb_ids (rb_nd (!d) C o (rb_nd (!d) B2 b B1)) → j ∈ rb_ids (rb_pl c (rb_nd d t p (rb_nd d B o C))) := fun j e => by
            rw [eT]; exact rb_mem_pl.mpr (Or.inl e)
          have hO0 := hO.2
          rw [eT] at hG hZ hO
          refine rb_turn (!d) hO hG hZ z0 w0 ?_
          rw [eT2]
          intro R' l' r' a' z' w' g3 g4 g5
          dsimp only
          have g50 := g5 0 (fun e => absurd (hO0 0 (sub 0 e)).1 (by omega))
          obtain ⟨hL', _⟩ := (rb_G_pl c _).mp g3
          obtain ⟨_, g6, _, _, _⟩ := rb_L_nd.mp hL'
          rw [rb_rt_nd] at g6
          have main4 : wX_settleBySister_109 post (nI p) (rb_bI d) (nI b) R' fr cu l' r' a' (upd (upd q b 0) o 1) k v z' w' := by
            unfold wX_settleBySister_109
            refine rb_sb111 d d (h := h) (by rw [eI, eT]; exact hO) g3 g4 (g50.2.1.trans z0) (g50.2.2.trans w0) (fq0.trans q0) ?_ ?_ ?_ ?_ ?_ ?_
            · exact rb_B_fr t h b1 (fun j hj => fq j (fun e => (jt j hj).2.2.2.1 (e ▸ bm)) (jt j hj).2.1) fq0
            · exact rb_B_fr B1 h y3 (fun j hj => fq j (fun e => i1 (e ▸ hj)) (jB j (s1 j hj)).2.1) fq0
            · exact rb_B_fr B2 h y4 (fun j hj => fq j (fun e => i2 (e ▸ hj)) (jB j (s2 j hj)).2.1) fq0
            · exact rb_B_fr C h b3 (fun j hj => fq j (fun e => jb.2.2.2 (e ▸ hj)) (jC j hj).2.1) fq0
            · rcases hK with ⟨k1, k2⟩ | ⟨k1, k2, k3, k4⟩
              · exact Or.inl ⟨qp.trans k1, rb_K_fr c _ k2 fc fq0⟩
              · exact Or.inr ⟨qp.trans k1, k2, (rb_q_top c fc fq0).trans k3, rb_K_fr c _ k4 fc fq0⟩
            · intro R'' l'' r'' a'' q'' z'' w'' T H o1 o2 o3 o4 o5 o6 o7
              refine hp R'' l'' r'' a'' q'' z'' w'' T H (o1.trans eI) o2 o3 o4 o5 o6 (fun j hj => ?_)
              have g7 := g5 j (fun e => hj (by rw [o1, eI]; exact sub j e))
              have g8 := o7 j hj
              exact ⟨g8.1.trans g7.1, g8.2.1.trans g7.2.1, g8.2.2.trans g7.2.2⟩
          rw [rb_clm hP.2]
          cases d with
          | true =>
            have g6' : r' p = nI b := g6
            refine br_f (by decide) ⟨rb_vi hP.2, ?_⟩
            rw [g6']; exact main4
          | false =>
            have g6' : l' p = nI b := g6
            refine br_t rfl ⟨rb_vi hP.2, ?_⟩
            rw [g6']; exact main4
        cases d with
        | true => exact br_f (by decide) main3
        | false => exact br_t rfl main3
      rw [eb] at g1
      cases d with
      | true =>
        have g1' : l o = nI b := g1
        refine br_f (by decide) ⟨rb_vi hX.2, ?_⟩
        rw [g1']; exact main2
      | false =>
        have g1' : r o = nI b := g1
        refine br_t rfl ⟨rb_vi hX.2, ?_⟩
        rw [g1']; exact main2
    · rcases rb_cs C with e | ⟨W1, m, W2, e⟩
      · exact absurd (by rw [e]; exact q0) hc
      · subst e
        rcases rb_B_in.mp b3 with ⟨y0, _⟩ | ⟨y0, y1, y2, y3, y4⟩
        · exact absurd y0 hc
        exact rb_sb111 d true (h := h) hO hG hZ z0 w0 q0 b1 b2 y3 y4 hK hp
  unfold wpX_settleBySister
  dsimp only
  rw [rb_clm hX.2]
  cases d with
  | true =>
    have g2' : r o = nI (rb_rt C) := g2
    refine br_f (by decide) ⟨rb_vi hX.2, ?_⟩
    rw [g2']; exact main
  | false =>
    have g2' : l o = nI (rb_rt C) := g2
    refine br_t rfl ⟨rb_vi hX.2, ?_⟩
    rw [g2']; exact main
/-- the sister is black -/
theorem rb_sr135 {post : SX → Prop} {J : Int32 → Int32 → Int32 → Int32 → Int32 → (Nat → Int32) → (Nat → Int32) → (Nat → Int32) → (Nat → Int32) → (Nat → Int32) → (Nat → Int32) → (Nat → Int32) → (Nat → Int64) → Prop} (d : Bool) {c : rb_X} {t B C : rb_T} {p o h i : Nat} (hO : rb_O (rb_ids (rb_pl c (rb_nd d t p (rb_nd d B o C))))) (hG : rb_G R l r a (rb_pl c (rb_nd d t p (rb_nd d B o C)))) (hZ : rb_Z v z w (rb_pl c (rb_nd d t p (rb_nd d B o C)))) (z0 : z 0 = 0) (w0 : w 0 = 0) (q0 : q 0 = 0) (b1 : rb_B q t h) (b2 : rb_B q B h) (b3 : rb_B q C h) (hK : (q p = 0 ∧ rb_K q c (h + 2)) ∨ (q p = 1 ∧ c ≠ [] ∧ q (rb_top c) = 0 ∧ rb_K q c (h + 1)))
    (h1 : q (rb_rt B) = 0 → q (rb_rt C) = 0 → J (nI p) (nI (i + 1)) R fr cu l r a (upd q o 1) k v z w)
    (h2 : ∀ R' l' r' a' q' z' w' T H, rb_ids T = rb_ids (rb_pl c (rb_nd d t p (rb_nd d B o C))) → rb_G R' l' r' a' T → rb_Z v z' w' T → rb_B q' T H → q' (rb_rt T) = 0 → q' 0 = 0 → (∀ j, j ∉ rb_ids T → a' j = a j ∧ z' j = z j ∧ w' j = w j) → J R' (nI (i + 1)) R' fr cu l' r' a' q' k v z' w') :
    wX_settleRemoved_135 post J (nI i) (nI p) (rb_bI d) (nI o) R fr cu l r a q k v z w := by
  have hO1 := rb_O_pl.mp hO
  have hO2 := (rb_O_perm rb_tperm).mp hO1
  have hX := hO2.2 o (by simp)
  have rB49 : rb_rt B < 49 := rb_rt_lt (fun j hj => hO2.2 j (by simp [hj]))
  have rC49 : rb_rt C < 49 := rb_rt_lt (fun j hj => hO2.2 j (by simp [hj]))
  obtain ⟨hL, hC⟩ := (rb_G_pl c _).mp hG
  obtain ⟨_, _, _, _, hL2⟩ := rb_L_nd.mp hL
  obtain ⟨g1, g2, _, _, _⟩ := rb_L_nd.mp hL2
  have sis : ¬ (q (rb_rt B) = 0 ∧ q (rb_rt C) = 0) → wX_settleRemoved_179 post J (nI i) (nI p) (rb_bI d) (nI o) R fr cu l r a q k v z w := by
    intro hn
    unfold wX_settleRemoved_179
    refine rb_sister d hO hG hZ z0 w0 q0 b1 b2 b3 hn hK ?_
    intro R' l' r' a' q' z' w' T H o1 o2 o3 o4 o5 o6 o7
    exact nm_r (nI_1 i) (h2 R' l' r' a' q' z' w' T H o1 o2 o3 o4 o5 o6 o7)
  unfold wX_settleRemoved_135
  rw [rb_clm hX.2, rb_n1]
  cases d with
  | true =>
    have g1' : l o = nI (rb_rt B) := g1
    have g2' : r o = nI (rb_rt C) := g2
    rw [g1', g2', rb_clm rB49, rb_clm rC49]
    refine ⟨rb_vi hX.2, rb_vi rB49, br_c (fun e1 => ⟨rb_vi hX.2, rb_vi rC49, br_c (fun e2 => ⟨rb_vi hX.2, nm_e (nm_r (nI_1 i) (h1 e1 e2))⟩) (fun e2 => sis (fun e => e2 e.2))⟩) (fun e1 => sis (fun e => e1 e.1))⟩
  | false =>
    have g1' : r o = nI (rb_rt B) := g1
    have g2' : l o = nI (rb_rt C) := g2
    rw [g1', g2', rb_clm rB49, rb_clm rC49]
    refine ⟨rb_vi hX.2, rb_vi rC49, br_c (fun e1 => ⟨rb_vi hX.2, rb_vi rB49, br_c (fun e2 => ⟨rb_vi hX.2, nm_e (nm_r (nI_1 i) (h1 e2 e1))⟩) (fun e2 => sis (fun e => e2 e.1))⟩) (fun e1 => sis (fun e => e1 e.2))⟩
theorem rb_upd_same {q : rb_A} {n : Nat} (h : q n = 0) : upd q n 0 = q := by
  funext j
  by_cases hj : j = n
  · rw [hj, rb_us]; exact h.symm
  · exact rb_un hj
theorem rb_srLoop {post : SX → Prop} : ∀ (f : Nat) (c : rb_X) (t : rb_T) (h i : Nat) (q : rb_A), c.length < f → i + c.length ≤ 48 → rb_O (rb_ids (rb_pl c t)) → rb_G R l r a (rb_pl c t) → rb_Z v z w (rb_pl c t) → z 0 = 0 → w 0 = 0 → q 0 = 0 → (c ≠ [] → a (rb_rt t) = nI (rb_top c)) → rb_Bw q t h → rb_K q c (h + 1) → (∀ R' l' r' a' q' z' w' T H, rb_ids T = rb_ids (rb_pl c t) → rb_G R' l' r' a' T → rb_Z v z' w' T → rb_B q' T H → q' (rb_rt T) = 0 → q' 0 = 0 → (∀ j, j ∉ rb_ids T → a' j = a j ∧ z' j = z j ∧ w' j = w j) → post (R', fr, cu, l', r', a', q', k, v, z', w')) → wX_settleRemoved_4 post f (nI (rb_rt t)) (nI i) R fr cu l r a q k v z w := by
  intro f
  induction f with
  | zero => intro c t h i q hf; omega
  | succ f ih =>
    intro c t h i q hf hi hO hG hZ z0 w0 q0 ha hB hK hp
    have hO1 := rb_O_pl.mp hO
    have rt49 : rb_rt t < 49 := rb_rt_lt (fun j hj => hO1.2 j (List.mem_append.mpr (Or.inl hj)))
    by_cases hq : q (rb_rt t) = 0
    · cases c with
      | nil =>
        obtain ⟨H, x1, x2, x3⟩ := rb_srFin hO q0 hB hK (Or.inl rfl)
        exact rb_srRoot rt49 hG.2 (hp R l r a _ z w _ H rfl hG hZ x1 x2 x3 (fun _ _ => ⟨rfl, rfl, rfl⟩))
      | cons fr1 c1 =>
      obtain ⟨d, p, S⟩ := fr1
      have bt := rb_Bw_0 hB hq
      obtain ⟨k1, k2⟩ := hK
      have hS : S ≠ rb_lf := by
        intro e
        rw [e, rb_B_lf] at k1
        omega
      obtain ⟨B, o, C, eS⟩ := rb_in_nd d S hS
      have ha1 : a (rb_rt t) = nI p := ha (List.cons_ne_nil _ _)
      have eT : rb_pl ((d, p, S) :: c1) t = rb_pl c1 (rb_nd d t p (rb_nd d B o C)) := by rw [← eS]; rfl
      have hO3 := hO
      rw [eT] at hO3
      have hG3 := hG
      rw [eT] at hG3
      have hZ3 := hZ
      rw [eT] at hZ3
      have hO2 := (rb_O_perm rb_tperm).mp (rb_O_pl.mp hO3)
      obtain ⟨po, jt, jB, jC, jc, dB, _⟩ := rb_dj hO2.1
      have hP := hO2.2 p (by simp)
      have hX := hO2.2 o (by simp)
      obtain ⟨hL, hC⟩ := (rb_G_pl c1 _).mp hG3
      obtain ⟨g1, g2, g3, _, _⟩ := rb_L_nd.mp hL
      rw [rb_rt_nd] at g2
      have hto : rb_rt t ≠ o := by
        rcases rb_rt_mem t with e | e
        · omega
        · exact (jt _ e).2.1
      have hR : ¬ nI (rb_rt t) = R := by
        rw [hG.2]
        have h1 := rb_rt_pl ((d, p, S) :: c1) t (List.cons_ne_nil _ _)
        have h2 := hO1.2 _ (List.mem_append.mpr (Or.inr h1))
        rw [rb_eqn rt49 h2.2]
        intro e
        rcases rb_rt_mem t with e' | e'
        · omega
        · exact (List.nodup_append.mp hO1.1).2.2 _ e' _ h1 e
      simp only [List.length_cons] at hf hi
      obtain ⟨f, rfl⟩ : ∃ g, f = g + 1 := ⟨f - 1, by omega⟩
      have fin2 : ∀ R' l' r' a' q' z' w' T H, rb_ids T = rb_ids (rb_pl ((d, p, S) :: c1) t) → rb_G R' l' r' a' T → rb_Z v z' w' T → rb_B q' T H → q' (rb_rt T) = 0 → q' 0 = 0 → (∀ j, j ∉ rb_ids T → a' j = a j ∧ z' j = z j ∧ w' j = w j) → wX_settleRemoved_4 post (f + 1) R' (nI (i + 1)) R' fr cu l' r' a' q' k v z' w' := by
        intro R' l' r' a' q' z' w' T H o1 o2 o3 o4 o5 o6 o7
        have rT : rb_rt T < 49 := rb_rt_lt (by rw [o1]; exact hO.2)
        have h3 := rb_srRoot (f := f) (x := nI (i + 1)) (q := q') (l := l') (r := r') (a := a') (z := z') (w := w') (k := k) (v := v) (fr := fr) (cu := cu) (post := post) rT o2.2 (by rw [rb_upd_same o5]; exact hp R' l' r' a' q' z' w' T H o1 o2 o3 o4 o5 o6 o7)
        rw [← o2.2] at h3
        exact h3
      have main : wX_settleRemoved_75 post (wX_settleRemoved_4 post (f + 1)) (nI i) (nI p) (rb_bI d) (nI o) R fr cu l r a q k v z w := by
        unfold wX_settleRemoved_75
        rw [rb_clm hX.2, rb_clm hP.2, rb_n0, rb_n1]
        refine ⟨rb_vi hX.2, br_c (fun ho => ?_) (fun ho => ⟨rb_vi hX.2, nm_e ⟨rb_vi hP.2, nm_e ?_⟩⟩)⟩
        · rw [eS] at k1
          rcases rb_B_nd.mp k1 with ⟨y0, i', y1, y2, y3⟩ | ⟨y0, _⟩
          · have ei : i' = h := by omega
            subst ei
            have hK' : (q p = 0 ∧ rb_K q c1 (i' + 2)) ∨ (q p = 1 ∧ c1 ≠ [] ∧ q (rb_top c1) = 0 ∧ rb_K q c1 (i' + 1)) := by
              rcases k2 with ⟨k3, k4⟩ | ⟨k3, k4, k5, k6, k7⟩
              · exact Or.inl ⟨k3, k4⟩
              · exact Or.inr ⟨k3, k5, k6, k7⟩
            refine rb_sr135 d hO3 hG3 hZ3 z0 w0 q0 bt y2 y3 hK' ?_ ?_
            · intro e1 e2
              have fq : ∀ j, j ≠ o → upd q o 1 j = q j := fun j hj => rb_un hj
              have fq0 : upd q o 1 0 = q 0 := fq 0 (by omega)
              have eB := rb_q_rt (q' := upd q o 1) (q := q) B (fun j hj => fq j (jB j hj).2.1) fq0
              have eC := rb_q_rt (q' := upd q o 1) (q := q) C (fun j hj => fq j (jC j hj).2.1) fq0
              have bt' := rb_B_fr t i' bt (fun j hj => fq j (jt j hj).2.1) fq0
              have bS : rb_B (upd q o 1) (rb_nd d B o C) i' := rb_B_nd.mpr (Or.inr ⟨rb_us, eB.trans e1, eC.trans e2, rb_B_fr B i' y2 (fun j hj => fq j (jB j hj).2.1) fq0, rb_B_fr C i' y3 (fun j hj => fq j (jC j hj).2.1) fq0⟩)
              have fc : ∀ j, j ∈ rb_ci c1 → upd q o 1 j = q j := fun j hj => fq j (jc j hj).2
              have qp : upd q o 1 p = q p := fq p po
              have go : ∀ h', ((upd q o 1) p = 0 ∧ h' = i' + 1) ∨ ((upd q o 1) p = 1 ∧ h' = i') → rb_K (upd q o 1) c1 (h' + 1) → wX_settleRemoved_4 post (f + 1) (nI p) (nI (i + 1)) R fr cu l r a (upd q o 1) k v z w := by
                intro h' x1 x2
                have h4 := ih c1 (rb_nd d t p (rb_nd d B o C)) h' (i + 1) (upd q o 1) (by omega) (by omega) hO3 hG3 hZ3 z0 w0 (fq0.trans q0) (fun _ => by rw [rb_rt_nd]; exact g3) (rb_Bw_nd bt' bS x1) x2 (by rw [← eT]; exact hp)
                rw [rb_rt_nd] at h4
                exact h4
              rcases hK' with ⟨k3, k4⟩ | ⟨k3, k5, k6, k7⟩
              · exact go (i' + 1) (Or.inl ⟨qp.trans k3, rfl⟩) (rb_K_fr c1 _ k4 fc fq0)
              · exact go i' (Or.inr ⟨qp.trans k3, rfl⟩) (rb_K_fr c1 _ k7 fc fq0)
            · rw [← eT]; exact fin2
          · exact absurd (y0.symm.trans ho) rb_01
        · rw [eS] at k1
          rcases rb_B_nd.mp k1 with ⟨y0, _⟩ | ⟨y0, y1, y2, y3, y4⟩
          · exact absurd y0 ho
          have k4 : rb_K q c1 (h + 2) := by
            rcases k2 with ⟨k3, k4⟩ | ⟨k3, k4, k5, k6, k7⟩
            · exact k4
            · rw [eS, rb_rt_nd] at k4
              exact absurd k4 ho
          have hBl : B ≠ rb_lf := by
            intro e
            rw [e, rb_B_lf] at y3
            omega
          obtain ⟨B1, b, B2, eB⟩ := rb_in_nd d B hBl
          have bm : b ∈ rb_ids B := by rw [eB]; exact rb_mem_nd.mpr (Or.inl rfl)
          have hb := hO2.2 b (by simp [bm])
          have jb := jB b bm
          have qb : q b = 0 := by rw [eB, rb_rt_nd] at y1; exact y1
          have fq : ∀ j, j ≠ o → j ≠ p → upd (upd q o 0) p 1 j = q j := fun j j1 j2 => by rw [rb_un j2, rb_un j1]
          have fq0 : upd (upd q o 0) p 1 0 = q 0 := fq 0 (by omega) (by omega)
          have qo : upd (upd q o 0) p 1 o = 0 := by rw [rb_un (Ne.symm po), rb_us]
          have qp : upd (upd q o 0) p 1 p = 1 := rb_us
          have fc : ∀ j, j ∈ rb_ci c1 → upd (upd q o 0) p 1 j = q j := fun j hj => fq j (jc j hj).2 (jc j hj).1
          have bt' := rb_B_fr t h bt (fun j hj => fq j (jt j hj).2.1 (jt j hj).1) fq0
          have bB' := rb_B_fr B (h + 1) y3 (fun j hj => fq j (jB j hj).2.1 (jB j hj).1) fq0
          have bC' := rb_B_fr C (h + 1) y4 (fun j hj => fq j (jC j hj).2.1 (jC j hj).1) fq0
          have qb' : upd (upd q o 0) p 1 b = 0 := (fq b jb.2.1 jb.1).trans qb
          rw [eB] at bB'
          have bb : rb_B (upd (upd q o 0) p 1) B1 h ∧ rb_B (upd (upd q o 0) p 1) B2 h := by
            rcases rb_B_nd.mp bB' with ⟨_, i', u1, u2, u3⟩ | ⟨u0, _⟩
            · have ei : i' = h := by omega
              subst ei; exact ⟨u2, u3⟩
            · exact absurd (u0.symm.trans qb') rb_01
          have eI : rb_ids (rb_pl c1 (rb_nd d (rb_nd d t p B) o C)) = rb_ids (rb_pl c1 (rb_nd d t p (rb_nd d B o C))) := rb_pl_ids rb_rot_ids
          have hKc : rb_K (upd (upd q o 0) p 1) ((d, o, C) :: c1) (h + 1) := ⟨bC', Or.inl ⟨qo, rb_K_fr c1 _ k4 fc fq0⟩⟩
          refine rb_turn d hO3 hG3 hZ3 z0 w0 ?_
          intro R' l' r' a' z' w' s1 s2 s3
          have s30 := s3 0 (fun e => absurd (hO3.2 0 (rb_mem_pl.mpr (Or.inl e))).1 (by omega))
          have eP : rb_pl c1 (rb_nd d (rb_nd d t p B) o C) = rb_pl ((d, o, C) :: c1) (rb_nd d t p (rb_nd d B1 b B2)) := by rw [← eB]; rfl
          have hO5 : rb_O (rb_ids (rb_pl ((d, o, C) :: c1) (rb_nd d t p (rb_nd d B1 b B2)))) := by rw [← eP, eI]; exact hO3
          have eI5 : rb_ids (rb_pl ((d, o, C) :: c1) (rb_nd d t p (rb_nd d B1 b B2))) = rb_ids (rb_pl ((d, p, S) :: c1) t) := by rw [← eP, eI, ← eT]
          rw [eP] at s1 s2
          obtain ⟨hL', _⟩ := (rb_G_pl ((d, o, C) :: c1) _).mp s1
          obtain ⟨_, g6, _, _, _⟩ := rb_L_nd.mp hL'
          rw [rb_rt_nd] at g6
          dsimp only
          have s3' : ∀ j, j ∉ rb_ids (rb_pl ((d, p, S) :: c1) t) → a' j = a j ∧ z' j = z j ∧ w' j = w j := by
            intro j hj
            refine s3 j (fun e => hj ?_)
            rw [eT]; exact rb_mem_pl.mpr (Or.inl e)
          have main2 : wX_settleRemoved_133 post (wX_settleRemoved_4 post (f + 1)) (nI i) (nI p) (rb_bI d) (nI b) R' fr cu l' r' a' (upd (upd q o 0) p 1) k v z' w' := by
            unfold wX_settleRemoved_133
            refine rb_sr135 d hO5 s1 s2 (s30.2.1.trans z0) (s30.2.2.trans w0) (fq0.trans q0) bt' bb.1 bb.2 (Or.inr ⟨qp, List.cons_ne_nil _ _, qo, hKc⟩) ?_ ?_
            · intro e1 e2
              have pb : p ≠ b := Ne.symm jb.1
              refine rb_srE hP.2 (by rw [rb_un pb, qp]; exact rb_01) ?_
              have hO6 := (rb_O_perm rb_tperm).mp (rb_O_pl.mp hO5)
              obtain ⟨_, mt, m1, m2, mc, _, _⟩ := rb_dj hO6.1
              have fr2 : ∀ j, j ≠ b → j ≠ p → upd (upd (upd (upd q o 0) p 1) b 1) p 0 j = upd (upd q o 0) p 1 j := fun j j1 j2 => by rw [rb_un j2, rb_un j1]
              have fr20 : upd (upd (upd (upd q o 0) p 1) b 1) p 0 0 = upd (upd q o 0) p 1 0 := fr2 0 (by omega) (by omega)
              have r1 := rb_q_rt (q' := upd (upd (upd (upd q o 0) p 1) b 1) p 0) (q := upd (upd q o 0) p 1) B1 (fun j hj => fr2 j (m1 j hj).2.1 (m1 j hj).1) fr20
              have r2 := rb_q_rt (q' := upd (upd (upd (upd q o 0) p 1) b 1) p 0) (q := upd (upd q o 0) p 1) B2 (fun j hj => fr2 j (m2 j hj).2.1 (m2 j hj).1) fr20
              have bnew : rb_B (upd (upd (upd (upd q o 0) p 1) b 1) p 0) (rb_nd d t p (rb_nd d B1 b B2)) (h + 1) := by
                refine rb_B_nd.mpr (Or.inl ⟨rb_us, h, rfl, rb_B_fr t h bt' (fun j hj => fr2 j (mt j hj).2.1 (mt j hj).1) fr20, rb_B_nd.mpr (Or.inr ⟨?_, r1.trans e1, r2.trans e2, rb_B_fr B1 h bb.1 (fun j hj => fr2 j (m1 j hj).2.1 (m1 j hj).1) fr20, rb_B_fr B2 h bb.2 (fun j hj => fr2 j (m2 j hj).2.1 (m2 j hj).1) fr20⟩)⟩)
                rw [rb_un (Ne.symm pb), rb_us]
              obtain ⟨H, u1, u2⟩ := rb_B_up ((d, o, C) :: c1) _ (h + 1) bnew (rb_K_fr _ (h + 1) hKc (fun j hj => fr2 j (mc j hj).2 (mc j hj).1) fr20) (Or.inl (by rw [rb_rt_nd]; exact rb_us))
              exact hp R' l' r' a' _ z' w' _ H eI5 s1 s2 u1 u2 (fr20.trans (fq0.trans q0)) (by rw [eI5]; exact s3')
            · intro R'' l'' r'' a'' q'' z'' w'' T H o1 o2 o3 o4 o5 o6 o7
              refine fin2 R'' l'' r'' a'' q'' z'' w'' T H (o1.trans eI5) o2 o3 o4 o5 o6 (fun j hj => ?_)
              have g7 := s3' j (by rw [← eI5, ← o1]; exact hj)
              have g8 := o7 j hj
              exact ⟨g8.1.trans g7.1, g8.2.1.trans g7.2.1, g8.2.2.trans g7.2.2⟩
          cases d with
          | true =>
            have g6' : r' p = nI b := g6
            refine br_f (by decide) ⟨rb_vi hP.2, ?_⟩
            rw [g6']; exact main2
          | false =>
            have g6' : l' p = nI b := g6
            refine br_t rfl ⟨rb_vi hP.2, ?_⟩
            rw [g6']; exact main2
      refine br_f (by rw [rb_48 (by omega)]; omega) (br_f hR ⟨rb_vi rt49, ?_⟩)
      rw [rb_clm rt49, ha1]
      refine br_t hq ⟨rb_vi rt49, nm_e ⟨rb_vi hP.2, ?_⟩⟩
      rw [rb_clm hP.2]
      cases d with
      | true =>
        have g1' : l p = nI (rb_rt t) := g1
        have g2' : r p = nI o := g2
        refine br_t g1' (br_f (by decide) ⟨rb_vi hP.2, ?_⟩)
        rw [rb_clm hP.2, g2']; exact main
      | false =>
        have g2' : l p = nI o := g2
        refine br_f (by rw [g2', rb_eqn hX.2 rt49]; exact Ne.symm hto) (br_t rfl ⟨rb_vi hP.2, ?_⟩)
        rw [rb_clm hP.2, g2']; exact main
    · obtain ⟨H, x1, x2, x3⟩ := rb_srFin hO q0 hB hK (Or.inr hq)
      exact rb_srE rt49 hq (hp R l r a _ z w _ H rfl hG hZ x1 x2 x3 (fun _ _ => ⟨rfl, rfl, rfl⟩))
end
end
section
/-! the invariant over the list of nodes, and removeNode -/
def rb_I (R fr : Int32) (l r a q k v z : rb_A) (w : rb_W) (L : List Nat) : Prop :=
  ∃ (T : rb_T) (F : List Nat) (H : Nat), rb_ids T = L ∧ rb_O (F ++ L) ∧ F.length + L.length = 48 ∧ rb_F a F fr ∧ rb_G R l r a T ∧ rb_Z v z w T ∧ rb_B q T H ∧ q (rb_rt T) = 0 ∧ q 0 = 0 ∧ z 0 = 0 ∧ w 0 = 0 ∧ v 0 = 0 ∧ L.Pairwise (fun i j => k i < k j)
theorem rb_uniq {n : Nat} : ∀ {X Y X' Y' : List Nat}, n ∉ X → n ∉ X' → X ++ n :: Y = X' ++ n :: Y' → X = X' ∧ Y = Y'
  | [], Y, [], Y', _, _, e => ⟨rfl, (List.cons.inj e).2⟩
  | [], Y, x :: X', Y', _, h, e => absurd ((List.cons.inj e).1 ▸ List.mem_cons_self) h
  | x :: X, Y, [], Y', h, _, e => absurd ((List.cons.inj e).1 ▸ List.mem_cons_self) h
  | x :: X, Y, y :: X', Y', h, h', e => by
    have e1 := List.cons.inj e
    obtain ⟨g1, g2⟩ := rb_uniq (fun g => h (List.mem_cons_of_mem _ g)) (fun g => h' (List.mem_cons_of_mem _ g)) e1.2
    exact ⟨by rw [e1.1, g1], g2⟩
theorem rb_O_r {X Y : List Nat} (h : rb_O (X ++ Y)) : rb_O Y := ⟨(List.nodup_append.mp h.1).2.1, fun j hj => h.2 j (List.mem_append.mpr (Or.inr hj))⟩
theorem rb_O_l {X Y : List Nat} (h : rb_O (X ++ Y)) : rb_O X := ⟨(List.nodup_append.mp h.1).1, fun j hj => h.2 j (List.mem_append.mpr (Or.inl hj))⟩
theorem rb_O_t {n : Nat} {Y : List Nat} (h : rb_O (n :: Y)) : rb_O Y := ⟨(List.nodup_cons.mp h.1).2, fun j hj => h.2 j (List.mem_cons_of_mem _ hj)⟩
theorem rb_Y_app {v z : rb_A} {w : rb_W} : ∀ (c c' : rb_X), rb_Y v z w (c ++ c') ↔ rb_Y v z w c ∧ rb_Y v z w c'
  | [], c' => ⟨fun h => ⟨True.intro, h⟩, fun h => h.2⟩
  | (d, n, s) :: c, c' => by
    show rb_Z v z w s ∧ rb_Y v z w (c ++ c') ↔ (rb_Z v z w s ∧ rb_Y v z w c) ∧ rb_Y v z w c'
    rw [rb_Y_app c c', and_assoc]
theorem rb_ci_app : ∀ (c c' : rb_X), rb_ci (c ++ c') = rb_ci c ++ rb_ci c'
  | [], _ => rfl
  | (d, n, s) :: c, c' => by
    show n :: (rb_ids s ++ rb_ci (c ++ c')) = (n :: (rb_ids s ++ rb_ci c)) ++ rb_ci c'
    rw [rb_ci_app c c']; simp
theorem rb_left (B : rb_T) : B ≠ rb_lf → ∃ c m D, B = rb_pl c (rb_in rb_lf m D) ∧ rb_cl c = [] := by
  induction B using rb_ind with
  | lf => exact fun h => absurd rfl h
  | nd A n B iA iB =>
    intro _
    by_cases e : A = rb_lf
    · subst e; exact ⟨[], n, B, rfl, rfl⟩
    · obtain ⟨c, m, D, e1, e2⟩ := iA e
      refine ⟨c ++ [(true, n, B)], m, D, by rw [rb_pl_app, ← e1]; rfl, ?_⟩
      have h : ∀ c : rb_X, rb_cl c = [] → rb_cl (c ++ [(true, n, B)]) = [] := by
        intro c
        induction c with
        | nil => intro _; rfl
        | cons f c ih =>
          intro h
          obtain ⟨d, x, s⟩ := f
          rw [rb_cl, List.append_eq_nil_iff] at h
          rw [List.cons_append, rb_cl, ih h.1, h.2]; rfl
      exact h c e2
theorem rb_K_sw {q q' : rb_A} {n m : Nat} {A : rb_T} {c : rb_X} (hm : q' m = q n) (h0 : q' 0 = q 0) (hA : ∀ j, j ∈ rb_ids A → q' j = q j) (hc : ∀ j, j ∈ rb_ci c → q' j = q j) : ∀ (c2 : rb_X) (h : Nat), (∀ j, j ∈ rb_ci c2 → q' j = q j) → rb_K q (c2 ++ (false, n, A) :: c) h → rb_K q' (c2 ++ (false, m, A) :: c) h
  | [], h, _, hK => by
    obtain ⟨k1, k2⟩ := hK
    refine ⟨rb_B_fr A h k1 hA h0, ?_⟩
    rcases k2 with ⟨x0, x1⟩ | ⟨x0, x1, x2, x3, x4⟩
    · exact Or.inl ⟨hm.trans x0, rb_K_fr c _ x1 hc h0⟩
    · exact Or.inr ⟨hm.trans x0, (rb_q_rt A hA h0).trans x1, x2, (rb_q_top c hc h0).trans x3, rb_K_fr c _ x4 hc h0⟩
  | (d, x, s) :: c2, h, hf, hK => by
    rw [rb_ci] at hf
    have hx := hf x List.mem_cons_self
    have hs : ∀ j, j ∈ rb_ids s → q' j = q j := fun j hj => hf j (by simp [hj])
    have h2 : ∀ j, j ∈ rb_ci c2 → q' j = q j := fun j hj => hf j (by simp [hj])
    obtain ⟨k1, k2⟩ := hK
    refine ⟨rb_B_fr s h k1 hs h0, ?_⟩
    rcases k2 with ⟨x0, x1⟩ | ⟨x0, x1, x2, x3, x4⟩
    · exact Or.inl ⟨hx.trans x0, rb_K_sw hm h0 hA hc c2 _ h2 x1⟩
    · refine Or.inr ⟨hx.trans x0, (rb_q_rt s hs h0).trans x1, by simp, ?_, rb_K_sw hm h0 hA hc c2 _ h2 x4⟩
      cases c2 with
      | nil => exact hm.trans x3
      | cons f c2 =>
        obtain ⟨d', y, s'⟩ := f
        exact (h2 y (by rw [rb_ci]; simp)).trans x3
section
variable {R fr cu : Int32} {l r a q k v z : rb_A} {w : rb_W}
theorem rb_refreshUp {post : SX → Prop} {c : rb_X} {t : rb_T} (hO : rb_O (rb_ids t ++ rb_ci c)) (hl : c.length ≤ 48) (hC : rb_C R l r a c (rb_rt t)) (hZ : rb_Z v z w t) (hY : rb_Y v z w c) (z0 : z 0 = 0) (w0 : w 0 = 0) (hp : ∀ z' w', rb_Z v z' w' (rb_pl c t) → (∀ j, j ∉ rb_ci c → z' j = z j ∧ w' j = w j) → post (R, fr, cu, l, r, a, q, k, v, z', w')) : wpX_refreshUp post (R, fr, cu, l, r, a, q, k, v, z, w) (nI (rb_top c)) := by
  unfold wpX_refreshUp
  dsimp only
  exact ⟨60, rb_upLoop c t z w 60 0 (by omega) (by omega) hO hC hZ hY z0 w0 hp⟩
theorem rb_183 {post : SX → Prop} {T : rb_T} {n H : Nat} {F : List Nat} (hO : rb_O (F ++ n :: rb_ids T)) (hl : F.length + (rb_ids T).length = 47) (hF : rb_F a F fr) (hG : rb_G R l r a T) (hZ : rb_Z v z w T) (hB : rb_B q T H) (hr : q (rb_rt T) = 0) (q0 : q 0 = 0) (z0 : z 0 = 0) (w0 : w 0 = 0) (v0 : v 0 = 0) (hs : (rb_ids T).Pairwise (fun i j => k i < k j)) (hp : ∀ a' q', rb_I R (nI n) l r a' q' k v z w (rb_ids T) → post (R, nI n, cu, l, r, a', q', k, v, z, w)) : wX_removeNode_183 post (nI n) R fr cu l r a q k v z w := by
  have hN := hO.2 n (by simp)
  obtain ⟨d1, d2, d3⟩ := List.nodup_append.mp hO.1
  obtain ⟨d4, d5⟩ := List.nodup_cons.mp d2
  unfold wX_removeNode_183
  rw [rb_clm hN.2, rb_n0]
  refine nm_e (nm_e ⟨rb_vi hN.2, nm_e (hp _ _ ?_)⟩)
  rw [rb_upd_same q0]
  have fa : ∀ j, j ≠ 0 → j ≠ n → upd (upd a 0 0) n fr j = a j := fun j j1 j2 => by rw [rb_un j2, rb_un j1]
  have rT : ∀ j, j ∈ rb_ids T → 0 < j ∧ j < 49 := fun j hj => hO.2 j (by simp [hj])
  refine ⟨T, n :: F, H, rfl, ?_, by simp; omega, ⟨rfl, ?_⟩, ⟨?_, hG.2⟩, hZ, hB, hr, q0, z0, w0, v0, hs⟩
  · refine (rb_O_perm (List.perm_iff_count.mpr (fun x => ?_))).mp hO
    simp only [List.cons_append, List.count_append, List.count_cons]; omega
  · rw [rb_us]
    refine rb_F_fr F fr hF (fun j hj => fa j ?_ ?_)
    · have := hO.2 j (by simp [hj]); omega
    · exact d3 j hj n List.mem_cons_self
  · refine rb_L_fr T 0 hG.1 (fun j hj => ⟨rfl, rfl, fa j ?_ ?_⟩)
    · have := rT j hj; omega
    · exact fun e => d4 (e ▸ hj)
theorem rb_rm168 {post : SX → Prop} {c : rb_X} {t : rb_T} {n : Nat} {F : List Nat} (b : Bool) (hO : rb_O (F ++ n :: rb_ids (rb_pl c t))) (hl : F.length + (rb_ids (rb_pl c t)).length = 47) (hF : rb_F a F fr) (hG : rb_G R l r a (rb_pl c t)) (hZ : rb_Z v z w t) (hY : rb_Y v z w c) (z0 : z 0 = 0) (w0 : w 0 = 0) (v0 : v 0 = 0) (q0 : q 0 = 0) (ha : a (rb_rt t) = nI (rb_top c)) (hs : (rb_ids (rb_pl c t)).Pairwise (fun i j => k i < k j))
    (hq : ∃ h, rb_B q t h ∧ ((b = true ∧ rb_K q c (h + 1)) ∨ (b = false ∧ rb_K q c h ∧ (q (rb_rt t) = 0 ∨ (c ≠ [] ∧ q (rb_top c) = 0)))))
    (hp : ∀ R' l' r' a' q' z' w', rb_I R' (nI n) l' r' a' q' k v z' w' (rb_ids (rb_pl c t)) → post (R', nI n, cu, l', r', a', q', k, v, z', w')) : wX_removeNode_168 post (nI n) (rb_bI b) (nI (rb_rt t)) (nI (rb_top c)) R fr cu l r a q k v z w := by
  have hO1 : rb_O (rb_ids (rb_pl c t)) := rb_O_t (rb_O_r hO)
  have hO2 := rb_O_pl.mp hO1
  have hcl : c.length ≤ 47 := by
    have h1 := rb_ci_len c
    have h2 := (rb_perm c t).length_eq
    simp only [List.length_append] at h2
    omega
  obtain ⟨hL, hC⟩ := (rb_G_pl c t).mp hG
  unfold wX_removeNode_168
  refine rb_refreshUp hO2 (by omega) hC hZ hY z0 w0 ?_
  intro z' w' hZ' hf
  dsimp only
  have h0c : (0 : Nat) ∉ rb_ci c := fun e => absurd (hO2.2 0 (List.mem_append.mpr (Or.inr e))).1 (by omega)
  have z0' := (hf 0 h0c).1.trans z0
  have w0' := (hf 0 h0c).2.trans w0
  obtain ⟨h, hB, (⟨hb, hK⟩ | ⟨hb, hK, hr⟩)⟩ := hq
  · subst hb
    refine br_f (by decide) ?_
    unfold wpX_settleRemoved
    dsimp only
    refine ⟨60, rb_srLoop 60 c t h 0 q (by omega) (by omega) hO1 hG hZ' z0' w0' q0 (fun _ => ha) (rb_Bw_of hB) hK ?_⟩
    intro R' l' r' a' q' z'' w'' T H o1 o2 o3 o4 o5 o6 o7
    dsimp only
    have hT0 : ∀ j, j ∈ F → j ∉ rb_ids T := by
      intro j hj e
      rw [o1] at e
      exact (List.nodup_append.mp hO.1).2.2 j hj j (List.mem_cons_of_mem _ e) rfl
    have h0T : (0 : Nat) ∉ rb_ids T := fun e => by
      rw [o1] at e
      exact absurd (hO1.2 0 e).1 (by omega)
    refine rb_183 (T := T) (H := H) (F := F) (by rw [o1]; exact hO) (by rw [o1]; exact hl) (rb_F_fr F fr hF (fun j hj => (o7 j (hT0 j hj)).1)) o2 o3 o4 o5 o6 ((o7 0 h0T).2.1.trans z0') ((o7 0 h0T).2.2.trans w0') v0 (by rw [o1]; exact hs) ?_
    intro a'' q'' hI
    rw [o1] at hI
    exact hp R' l' r' a'' q'' z'' w'' hI
  · subst hb
    refine br_t rfl ?_
    obtain ⟨H, x1, x2⟩ := rb_B_up c t h hB hK hr
    exact rb_183 hO hl hF hG hZ' x1 x2 q0 z0' w0' v0 hs (fun a' q' hI => hp R l r a' q' z' w' hI)
/-- a node with at most one child -/
theorem rb_rm50 {post : SX → Prop} {c : rb_X} {A B : rb_T} {n h : Nat} {F : List Nat} (b : Bool) (hO : rb_O (F ++ rb_ids (rb_pl c (rb_in A n B)))) (hl : F.length + (rb_ids (rb_pl c (rb_in A n B))).length = 48) (hF : rb_F a F fr) (hG : rb_G R l r a (rb_pl c (rb_in A n B))) (hZ : rb_Z v z w (rb_pl c (rb_in A n B))) (z0 : z 0 = 0) (w0 : w 0 = 0) (v0 : v 0 = 0) (q0 : q 0 = 0) (hs : (rb_ids (rb_pl c (rb_in A n B))).Pairwise (fun i j => k i < k j)) (hB : rb_B q (rb_in A n B) h) (hK : rb_K q c h) (hb : (b = true ∧ q n = 0) ∨ (b = false ∧ ¬ q n = 0)) (he : A = rb_lf ∨ B = rb_lf)
    (hp : ∀ R' l' r' a' q' z' w', rb_I R' (nI n) l' r' a' q' k v z' w' (rb_cl c ++ ((rb_ids A ++ rb_ids B) ++ rb_cr c)) → post (R', nI n, cu, l', r', a', q', k, v, z', w')) : wX_removeNode_50 post (nI n) (rb_bI b) R fr cu l r a q k v z w := by
  have hO1 := rb_O_r hO
  have hO2 := rb_O_pl.mp hO1
  rw [rb_ids_in] at hO2
  have hN := hO2.2 n (by simp)
  obtain ⟨hL, hC⟩ := (rb_G_pl c _).mp hG
  obtain ⟨l1, l2, l3, l4, l5⟩ := rb_L_in.mp hL
  obtain ⟨zz, hY, _⟩ := (rb_Z_pl c _).mp hZ
  obtain ⟨_, _, zA, zB⟩ := rb_Z_in.mp zz
  have dd := hO2.1
  simp only [List.nodup_append, List.nodup_cons, List.mem_append, List.mem_cons] at dd
  have main : ∀ t : rb_T, rb_ids t = rb_ids A ++ rb_ids B → rb_L l r a t n → rb_Z v z w t → (∀ i, rb_B q A i → rb_B q B i → rb_B q t i) → (q (rb_rt A) = 0 → q (rb_rt B) = 0 → q (rb_rt t) = 0) → wX_removeNode_74 post (nI n) (rb_bI b) (nI (rb_rt t)) R fr cu l r a q k v z w := by
    intro t et hLt hZt hBt hqt
    have nt : n ∉ rb_ids t := by rw [et]; grind
    have nc : n ∉ rb_ci c := by grind
    have dt : (rb_ids t).Nodup := by rw [et, List.nodup_append]; grind
    have tc : ∀ j, j ∈ rb_ids t → j ∉ rb_ci c := by rw [et]; grind
    have rt' : ∀ j, j ∈ rb_ids t → 0 < j ∧ j < 49 := fun j hj => hO2.2 j (by rw [et, List.mem_append] at hj; simp; rcases hj with hj | hj <;> simp [hj])
    have rt49 := rb_rt_lt rt'
    have h0c : (0 : Nat) ∉ rb_ci c := fun e => absurd (hO2.2 0 (by simp [e])).1 (by omega)
    have rtc : rb_rt t ∉ rb_ci c := by
      rcases rb_rt_mem t with e | e
      · rw [e]; exact h0c
      · exact tc _ e
    have rtn : rb_rt t ≠ n := by
      rcases rb_rt_mem t with e | e
      · omega
      · exact fun e' => nt (e' ▸ e)
    have ei : rb_ids (rb_pl c t) = rb_cl c ++ ((rb_ids A ++ rb_ids B) ++ rb_cr c) := by rw [rb_ids_pl, et]
    have ei2 := rb_ids_pl c (rb_in A n B)
    rw [rb_ids_in] at ei2
    have hOn : rb_O (F ++ n :: rb_ids (rb_pl c t)) := by
      refine (rb_O_perm (List.perm_iff_count.mpr (fun x => ?_))).mp hO
      rw [ei, ei2]
      simp only [List.count_append, List.count_cons]; omega
    have hFt : ∀ j, j ∈ F → j ≠ rb_rt t := by
      intro j hj e
      rcases rb_rt_mem t with e' | e'
      · have := hO.2 j (by simp [hj]); omega
      · exact (List.nodup_append.mp hOn.1).2.2 j hj (rb_rt t) (List.mem_cons_of_mem _ (by rw [rb_mem_pl]; exact Or.inl e')) e
    unfold wX_removeNode_74
    rw [rb_clm hN.2, l3]
    refine ⟨rb_vi hN.2, nm_e (rb_replace (c := c) (rb_O_r hO2) hN.1 hN.2 nc rt49 rtc l3 hC ?_)⟩
    intro R' l' r' hC' hf
    dsimp only
    refine rb_rm168 (F := F) b hOn ?_ (rb_F_fr F fr hF (fun j hj => rb_un (hFt j hj))) ((rb_G_pl c t).mpr ⟨rb_L_re hLt dt (fun j hj => ⟨(hf j (tc j hj)).1, (hf j (tc j hj)).2, fun e => rb_un e⟩) (fun _ => rb_us), hC'⟩) hZt hY z0 w0 v0 q0 rb_us ?_ ?_ ?_
    · rw [ei2] at hl
      rw [ei]
      simp only [List.length_append, List.length_cons] at hl ⊢; omega
    · rw [ei]
      rw [ei2] at hs
      refine List.Pairwise.sublist ?_ hs
      exact List.Sublist.append (List.Sublist.refl _) (List.Sublist.append (List.Sublist.append (List.Sublist.refl _) (List.sublist_cons_self _ _)) (List.Sublist.refl _))
    · rcases rb_B_in.mp hB with ⟨x0, i, x1, x2, x3⟩ | ⟨x0, x1, x2, x3, x4⟩
      · subst x1
        rcases hb with ⟨hb, _⟩ | ⟨_, hb⟩
        · exact ⟨i, hBt i x2 x3, Or.inl ⟨hb, hK⟩⟩
        · exact absurd x0 hb
      · rcases hb with ⟨_, hb⟩ | ⟨hb, _⟩
        · exact absurd (x0.symm.trans hb) rb_01
        · exact ⟨h, hBt h x3 x4, Or.inr ⟨hb, hK, Or.inl (hqt x1 x2)⟩⟩
    · rw [ei]; exact hp
  have rA : ∀ j, j ∈ rb_ids A → 0 < j ∧ j < 49 := fun j hj => hO2.2 j (by simp [hj])
  unfold wX_removeNode_50
  rw [rb_clm hN.2, l1, l2, rb_eq0 (rb_rt_lt rA), rb_rt_0 rA]
  refine ⟨rb_vi hN.2, br_c (fun e => ⟨rb_vi hN.2, ?_⟩) (fun e => ⟨rb_vi hN.2, ?_⟩)⟩
  · subst e
    exact main B rfl l5 zB (fun _ _ h => h) (fun _ h => h)
  · rcases he with he | he
    · exact absurd he e
    · subst he
      exact main A (by rw [rb_ids_lf, List.append_nil]) l4 zA (fun _ h _ => h) (fun h _ => h)
/-- m takes the place of n -/
theorem rb_pip45 {post : SX → Prop} {c : rb_X} {A B : rb_T} {n m : Nat} (hO : rb_O (n :: m :: (rb_ids A ++ (rb_ids B ++ rb_ci c)))) (hA0 : A ≠ rb_lf) (hC : rb_C R l r a c n) (an : a n = nI (rb_top c)) (ln : l n = nI (rb_rt A)) (hA : rb_L l r a A n) (rm : r m = nI (rb_rt B)) (hB : rb_L l r a B m) (qn : q n = 0 ∨ q n = 1) (hp : ∀ R' l' r' a', rb_G R' l' r' a' (rb_pl c (rb_in A m B)) → (∀ j, j ≠ m → j ∉ rb_ids A → a' j = a j) → post (R', fr, cu, l', r', a', upd q m (q n), k, v, z, w)) : wX_putInPlace_45 post (nI m) (nI n) R fr cu l r a q k v z w := by
  have hN := hO.2 n (by simp)
  have hM := hO.2 m (by simp)
  have rA : ∀ j, j ∈ rb_ids A → 0 < j ∧ j < 49 := fun j hj => hO.2 j (by simp [hj])
  have rA49 := rb_rt_lt rA
  have am : rb_rt A ∈ rb_ids A := by
    rcases rb_rt_mem A with e | e
    · exact absurd ((rb_rt_0 rA).mp e) hA0
    · exact e
  have dd := hO.1
  simp only [List.nodup_append, List.nodup_cons, List.mem_append, List.mem_cons, not_or] at dd
  obtain ⟨⟨nm, nA, nB, nc⟩, ⟨mA, mB, mc⟩, dA, ⟨dB, dc, dBc⟩, dABc⟩ := dd
  have Ac : ∀ j, j ∈ rb_ids A → j ∉ rb_ci c := fun j hj e => dABc j hj j (Or.inr e) rfl
  have BA : ∀ j, j ∈ rb_ids B → j ≠ rb_rt A := fun j hj e => dABc _ am j (Or.inl hj) e.symm
  have Bc : ∀ j, j ∈ rb_ids B → j ∉ rb_ci c := fun j hj e => dBc j hj j e rfl
  have Am : rb_rt A ≠ m := fun e => mA (e ▸ am)
  have jmA : ∀ j, j ∈ rb_ids A → j ≠ m := fun j hj e => mA (e ▸ hj)
  have jmB : ∀ j, j ∈ rb_ids B → j ≠ m := fun j hj e => mB (e ▸ hj)
  unfold wX_putInPlace_45
  refine rb_replace (c := c) ⟨dc, fun j hj => hO.2 j (by simp [hj])⟩ hN.1 hN.2 nc hM.2 mc an hC (fun R' l' r' hC' hf => ?_)
  dsimp only
  rw [rb_clm hN.2, rb_clm hM.2, (hf n nc).1, ln, rb_nq qn]
  refine ⟨rb_vi hN.2, rb_vi hM.2, nm_e ⟨rb_vi hM.2, ?_⟩⟩
  rw [rb_us, rb_clm rA49]
  refine ⟨rb_vi rA49, nm_e ⟨rb_vi hN.2, rb_vi hM.2, nm_e (hp _ _ _ _ ((rb_G_pl c _).mpr ⟨rb_L_in.mpr ⟨rb_us, ?_, ?_, ?_, ?_⟩, ?_⟩) ?_)⟩⟩
  · rw [(hf m mc).2]; exact rm
  · rw [rb_un (Ne.symm Am), rb_us]
  · exact rb_L_re hA dA (fun j hj => ⟨(rb_un (jmA j hj)).trans (hf j (Ac j hj)).1, (hf j (Ac j hj)).2, fun e => (rb_un e).trans (rb_un (jmA j hj))⟩) (fun _ => rb_us)
  · exact rb_L_fr B m hB (fun j hj => ⟨(rb_un (jmB j hj)).trans (hf j (Bc j hj)).1, (hf j (Bc j hj)).2, (rb_un (BA j hj)).trans (rb_un (jmB j hj))⟩)
  · exact rb_C_fr c m hC' (fun j hj => ⟨rb_un (fun e => mc (e ▸ hj)), rfl, rb_un (fun e => Ac _ am (e ▸ hj))⟩)
  · intro j j1 j2
    have j3 : j ≠ rb_rt A := fun e => j2 (by rw [e]; exact am)
    exact (rb_un j3).trans (rb_un j1)
end
end
section
/-! removeNode: the node with two children, and the whole -/
theorem rb_rt_pl_mem {c : rb_X} {t : rb_T} (h : t ≠ rb_lf ∨ c ≠ []) : rb_rt (rb_pl c t) ∈ rb_ids (rb_pl c t) := by
  rcases rb_rt_mem (rb_pl c t) with e | e
  · by_cases hc : c = []
    · subst hc
      rcases h with h | h
      · rcases rb_cs t with e' | ⟨A, n, B, rfl⟩
        · exact absurd e' h
        · show n ∈ rb_ids (rb_in A n B)
          rw [rb_ids_in]; simp
      · exact absurd rfl h
    · rw [rb_mem_pl]; exact Or.inr (rb_rt_pl c t hc)
  · exact e
section
variable {R fr cu : Int32} {l r a q k v z : rb_A} {w : rb_W}
theorem rb_pip {post : SX → Prop} {c c2 : rb_X} {A D : rb_T} {n m : Nat} (hO : rb_O (n :: m :: (rb_ids A ++ (rb_ids D ++ (rb_ci c2 ++ rb_ci c))))) (hA0 : A ≠ rb_lf) (hG : rb_G R l r a (rb_pl (c2 ++ (false, n, A) :: c) (rb_in rb_lf m D))) (qn : q n = 0 ∨ q n = 1) (hp : ∀ R' l' r' a', rb_G R' l' r' a' (rb_pl c (rb_in A m (rb_pl c2 D))) → (∀ j, j ≠ 0 → j ≠ m → j ∉ rb_ids A → j ∉ rb_ids D → j ∉ rb_ci c2 → a' j = a j) → post (R', fr, cu, l', r', a', upd q m (q n), k, v, z, w)) : wpX_putInPlace post (R, fr, cu, l, r, a, q, k, v, z, w) (nI m) (nI n) := by
  have hN := hO.2 n (by simp)
  have hM := hO.2 m (by simp)
  have rD : ∀ j, j ∈ rb_ids D → 0 < j ∧ j < 49 := fun j hj => hO.2 j (by simp [hj])
  have rD49 := rb_rt_lt rD
  obtain ⟨hL, hC⟩ := (rb_G_pl _ _).mp hG
  rw [rb_rt_in] at hC
  obtain ⟨l1, l2, l3, _, l5⟩ := rb_L_in.mp hL
  unfold wpX_putInPlace
  dsimp only
  rw [rb_clm hM.2]
  refine ⟨rb_vi hM.2, ?_⟩
  cases c2 with
  | nil =>
    have hG2 : rb_G R l r a (rb_pl c (rb_in A n (rb_in rb_lf m D))) := hG
    obtain ⟨hL2, hC2⟩ := (rb_G_pl c _).mp hG2
    obtain ⟨m1, m2, m3, m4, m5⟩ := rb_L_in.mp hL2
    refine br_t l3 ?_
    refine rb_pip45 (c := c) (A := A) (B := D) hO hA0 hC2 m3 m1 m4 l2 l5 qn ?_
    intro R' l' r' a' g1 g2
    exact hp R' l' r' a' g1 (fun j _ j2 j3 _ _ => g2 j j2 j3)
  | cons f c2 =>
    obtain ⟨d, y, s⟩ := f
    have hy := hO.2 y (by rw [rb_ci]; simp)
    have dd := hO.1
    rw [rb_ci] at dd
    simp only [List.nodup_append, List.nodup_cons, List.mem_append, List.mem_cons, not_or] at dd
    have ny : n ≠ y := by grind
    have hc2 : ((d, y, s) :: c2) ++ (false, n, A) :: c = (d, y, s) :: (c2 ++ (false, n, A) :: c) := rfl
    have l3' : a m = nI y := l3
    refine br_f (by rw [l3', rb_eqn hy.2 hN.2]; exact Ne.symm ny) ⟨rb_vi hM.2, ?_⟩
    rw [l2]
    have eci : rb_ci ((d, y, s) :: c2 ++ (false, n, A) :: c) = rb_ci ((d, y, s) :: c2) ++ (n :: (rb_ids A ++ rb_ci c)) := rb_ci_app _ _
    have hOi : rb_O (m :: (rb_ids D ++ rb_ci ((d, y, s) :: c2 ++ (false, n, A) :: c))) := by
      refine (rb_O_perm (List.perm_iff_count.mpr (fun x => ?_))).mp hO
      rw [eci]
      simp only [List.count_append, List.count_cons]; omega
    have mci : m ∉ rb_ci ((d, y, s) :: c2 ++ (false, n, A) :: c) := fun e => (List.nodup_cons.mp hOi.1).1 (List.mem_append.mpr (Or.inr e))
    have mD : m ∉ rb_ids D := fun e => (List.nodup_cons.mp hOi.1).1 (by simp [e])
    have hOj := rb_O_t hOi
    obtain ⟨dD, dX, dDX⟩ := List.nodup_append.mp hOj.1
    have Dci : ∀ j, j ∈ rb_ids D → j ∉ rb_ci ((d, y, s) :: c2 ++ (false, n, A) :: c) := fun j hj e => dDX j hj j e rfl
    have h0ci : (0 : Nat) ∉ rb_ci ((d, y, s) :: c2 ++ (false, n, A) :: c) := fun e => absurd (hOj.2 0 (List.mem_append.mpr (Or.inr e))).1 (by omega)
    have rDci : rb_rt D ∉ rb_ci ((d, y, s) :: c2 ++ (false, n, A) :: c) := by
      rcases rb_rt_mem D with e | e
      · rw [e]; exact h0ci
      · exact Dci _ e
    refine rb_replace (c := (d, y, s) :: c2 ++ (false, n, A) :: c) (rb_O_r hOj) hM.1 hM.2 mci rD49 rDci l3 hC (fun R' l' r' hC' hf => ?_)
    have hG1 : rb_G R' l' r' (upd a (rb_rt D) (nI (rb_top ((d, y, s) :: c2 ++ (false, n, A) :: c)))) (rb_pl ((d, y, s) :: c2 ++ (false, n, A) :: c) D) := by
      refine (rb_G_pl _ _).mpr ⟨rb_L_re l5 dD (fun j hj => ⟨(hf j (Dci j hj)).1, (hf j (Dci j hj)).2, fun e => rb_un e⟩) (fun _ => rb_us), hC'⟩
    have eP : rb_pl ((d, y, s) :: c2 ++ (false, n, A) :: c) D = rb_pl c (rb_in A n (rb_pl ((d, y, s) :: c2) D)) := by rw [rb_pl_app]; rfl
    rw [eP] at hG1
    generalize hB : rb_pl ((d, y, s) :: c2) D = B at hG1 hp
    generalize ha1 : upd a (rb_rt D) (nI (rb_top ((d, y, s) :: c2 ++ (false, n, A) :: c))) = a1 at hG1
    obtain ⟨hL2, hC2⟩ := (rb_G_pl c _).mp hG1
    obtain ⟨m1, m2, m3, m4, m5⟩ := rb_L_in.mp hL2
    have pB := rb_perm ((d, y, s) :: c2) D
    rw [hB] at pB
    have hO4 : rb_O (n :: m :: (rb_ids A ++ (rb_ids B ++ rb_ci c))) := by
      refine (rb_O_perm (List.perm_iff_count.mpr (fun x => ?_))).mp hO
      have := pB.count_eq x
      simp only [List.count_append, List.count_cons] at this ⊢; omega
    have rB : ∀ j, j ∈ rb_ids B → 0 < j ∧ j < 49 := fun j hj => hO4.2 j (by simp [hj])
    have rB49 := rb_rt_lt rB
    have Bm : rb_rt B ∈ rb_ids B := by
      rw [← hB]; exact rb_rt_pl_mem (Or.inr (List.cons_ne_nil _ _))
    have d4 := hO4.1
    simp only [List.nodup_append, List.nodup_cons, List.mem_append, List.mem_cons, not_or] at d4
    obtain ⟨⟨nm, nA, nB, nc⟩, ⟨mA, mB, mc⟩, dA, ⟨dB, dc, dBc⟩, dABc⟩ := d4
    have hmA : ∀ j, j ∈ rb_ids A → j ≠ m := fun j hj e => mA (e ▸ hj)
    have hmB : ∀ j, j ∈ rb_ids B → j ≠ m := fun j hj e => mB (e ▸ hj)
    have hmc : ∀ j, j ∈ rb_ci c → j ≠ m := fun j hj e => mc (e ▸ hj)
    have hBA : ∀ j, j ∈ rb_ids A → j ≠ rb_rt B := fun j hj e => dABc j hj _ (Or.inl Bm) e
    have hBc : ∀ j, j ∈ rb_ci c → j ≠ rb_rt B := fun j hj e => dBc _ Bm j hj e.symm
    have hBn : n ≠ rb_rt B := fun e => nB (e ▸ Bm)
    dsimp only
    rw [rb_clm hN.2, m2]
    refine ⟨rb_vi hN.2, rb_vi hM.2, nm_e ⟨rb_vi hM.2, ?_⟩⟩
    rw [rb_us, rb_clm rB49]
    refine ⟨rb_vi rB49, nm_e ?_⟩
    refine rb_pip45 (c := c) (A := A) (B := B) hO4 hA0 (rb_C_fr c n hC2 (fun j hj => ⟨rfl, rb_un (hmc j hj), rb_un (hBc j hj)⟩)) ((rb_un hBn).trans m3) m1 (rb_L_fr A n m4 (fun j hj => ⟨rfl, rb_un (hmA j hj), rb_un (hBA j hj)⟩)) rb_us (rb_L_re m5 dB (fun j hj => ⟨rfl, rb_un (hmB j hj), fun e => rb_un e⟩) (fun _ => rb_us)) qn ?_
    intro R'' l'' r'' a'' g1 g2
    refine hp R'' l'' r'' a'' g1 (fun j j0 j2 j3 j4 j5 => ?_)
    have jB : j ≠ rb_rt B := by
      intro e
      have : j ∈ rb_ids B := e ▸ Bm
      rw [pB.mem_iff, List.mem_append] at this
      rcases this with h | h
      · exact j4 h
      · exact j5 h
    have jD : j ≠ rb_rt D := by
      intro e
      rcases rb_rt_mem D with e' | e'
      · omega
      · exact j4 (e ▸ e')
    rw [g2 j j2 j3, rb_un jB, ← ha1, rb_un jD]
theorem rb_rm119 {post : SX → Prop} {c c2 : rb_X} {A D : rb_T} {n m H : Nat} {F : List Nat} (b : Bool) (hA0 : A ≠ rb_lf) (hcl : rb_cl c2 = []) (hO : rb_O (F ++ rb_ids (rb_pl c (rb_in A n (rb_pl c2 (rb_in rb_lf m D)))))) (hl : F.length + (rb_ids (rb_pl c (rb_in A n (rb_pl c2 (rb_in rb_lf m D))))).length = 48) (hF : rb_F a F fr) (hG : rb_G R l r a (rb_pl c (rb_in A n (rb_pl c2 (rb_in rb_lf m D))))) (hZ : rb_Z v z w (rb_pl c (rb_in A n (rb_pl c2 (rb_in rb_lf m D))))) (z0 : z 0 = 0) (w0 : w 0 = 0) (v0 : v 0 = 0) (q0 : q 0 = 0) (hs : (rb_ids (rb_pl c (rb_in A n (rb_pl c2 (rb_in rb_lf m D))))).Pairwise (fun i j => k i < k j)) (hB : rb_B q (rb_pl c (rb_in A n (rb_pl c2 (rb_in rb_lf m D)))) H) (hr : q (rb_rt (rb_pl c (rb_in A n (rb_pl c2 (rb_in rb_lf m D))))) = 0) (qn : q n = 0 ∨ q n = 1) (hb : (b = true ∧ q m = 0) ∨ (b = false ∧ ¬ q m = 0))
    (hp : ∀ R' l' r' a' q' z' w', rb_I R' (nI n) l' r' a' q' k v z' w' (rb_cl c ++ ((rb_ids A ++ rb_ids (rb_pl c2 (rb_in rb_lf m D))) ++ rb_cr c)) → post (R', nI n, cu, l', r', a', q', k, v, z', w')) : wX_removeNode_119 post (nI n) (nI m) (rb_bI b) R fr cu l r a q k v z w := by
  have eP : rb_pl c (rb_in A n (rb_pl c2 (rb_in rb_lf m D))) = rb_pl (c2 ++ (false, n, A) :: c) (rb_in rb_lf m D) := by rw [rb_pl_app]; rfl
  have eP3 : rb_pl (c2 ++ (false, m, A) :: c) D = rb_pl c (rb_in A m (rb_pl c2 D)) := by rw [rb_pl_app]; rfl
  have eI3 : rb_ids (rb_pl (c2 ++ (false, m, A) :: c) D) = rb_cl c ++ ((rb_ids A ++ rb_ids (rb_pl c2 (rb_in rb_lf m D))) ++ rb_cr c) := by
    rw [eP3, rb_ids_pl c, rb_ids_in, rb_ids_pl c2, rb_ids_pl c2, hcl, rb_ids_in, rb_ids_lf]; simp
  have eI := rb_ids_pl c (rb_in A n (rb_pl c2 (rb_in rb_lf m D)))
  rw [rb_ids_in] at eI
  have hOT := rb_O_r hO
  have p2 := rb_perm c2 (rb_in rb_lf m D)
  have hO1 : rb_O (n :: m :: (rb_ids A ++ (rb_ids D ++ (rb_ci c2 ++ rb_ci c)))) := by
    refine (rb_O_perm ((rb_perm c _).symm.trans ?_)).mp (rb_O_pl.mp hOT)
    refine (rb_perm c _).trans (List.perm_iff_count.mpr (fun x => ?_))
    have := p2.count_eq x
    rw [rb_ids_in, rb_ids_lf] at this
    rw [rb_ids_in]
    simp only [List.count_append, List.count_cons, List.count_nil] at this ⊢; omega
  have hN := hO1.2 n (by simp)
  have hM := hO1.2 m (by simp)
  have rD : ∀ j, j ∈ rb_ids D → 0 < j ∧ j < 49 := fun j hj => hO1.2 j (by simp [hj])
  have rD49 := rb_rt_lt rD
  have hG2 := hG
  rw [eP] at hG2
  obtain ⟨hL, hC⟩ := (rb_G_pl _ _).mp hG2
  obtain ⟨l1, l2, l3, _, l5⟩ := rb_L_in.mp hL
  have hZ2 := hZ
  rw [eP] at hZ2
  obtain ⟨zz, hY, _⟩ := (rb_Z_pl _ _).mp hZ2
  obtain ⟨_, _, _, zD⟩ := rb_Z_in.mp zz
  have hY3 : rb_Y v z w (c2 ++ (false, m, A) :: c) := by
    rw [rb_Y_app] at hY ⊢
    exact hY
  rw [eP] at hB hr
  obtain ⟨h, b1, b2, b3⟩ := rb_B_dn _ _ H hB hr
  have dd := hO1.1
  simp only [List.nodup_append, List.nodup_cons, List.mem_append, List.mem_cons, not_or] at dd
  obtain ⟨⟨nm, nA, nD, n2, nc⟩, ⟨mA, mD, m2, mc⟩, dA, ⟨dD, ⟨d2, dc, d2c⟩, dDX⟩, dAX⟩ := dd
  have fq : ∀ j, j ≠ m → upd q m (q n) j = q j := fun j hj => rb_un hj
  have fq0 : upd q m (q n) 0 = q 0 := fq 0 (by omega)
  have hK3 : ∀ h', rb_K q (c2 ++ (false, n, A) :: c) h' → rb_K (upd q m (q n)) (c2 ++ (false, m, A) :: c) h' := fun h' hh => rb_K_sw rb_us fq0 (fun j hj => fq j (fun e => mA (e ▸ hj))) (fun j hj => fq j (fun e => mc (e ▸ hj))) c2 h' (fun j hj => fq j (fun e => m2 (e ▸ hj))) hh
  have eci : rb_ci (c2 ++ (false, m, A) :: c) = rb_ci c2 ++ (m :: (rb_ids A ++ rb_ci c)) := rb_ci_app _ _
  have fin : ∀ R' l' r' a', rb_G R' l' r' a' (rb_pl c (rb_in A m (rb_pl c2 D))) → (∀ j, j ≠ 0 → j ≠ m → j ∉ rb_ids A → j ∉ rb_ids D → j ∉ rb_ci c2 → a' j = a j) → wX_removeNode_168 post (nI n) (rb_bI b) (nI (rb_rt D)) (nI (rb_top (c2 ++ (false, m, A) :: c))) R' fr cu l' r' (upd a' (rb_rt D) (nI (rb_top (c2 ++ (false, m, A) :: c)))) (upd q m (q n)) k v z w := by
    intro R' l' r' a' g1 g2
    rw [← eP3] at g1
    obtain ⟨g3, g4⟩ := (rb_G_pl _ _).mp g1
    have hOn : rb_O (F ++ n :: rb_ids (rb_pl (c2 ++ (false, m, A) :: c) D)) := by
      refine (rb_O_perm (List.perm_iff_count.mpr (fun x => ?_))).mp hO
      rw [eI3, eI]
      simp only [List.count_append, List.count_cons]; omega
    have hFd := (List.nodup_append.mp hO.1).2.2
    have memT : ∀ j, j = m ∨ j ∈ rb_ids A ∨ j ∈ rb_ids D ∨ j ∈ rb_ci c2 → j ∈ rb_ids (rb_pl c (rb_in A n (rb_pl c2 (rb_in rb_lf m D)))) := by
      intro j hj
      rw [eP, rb_mem_pl, rb_ids_in, rb_ids_lf, rb_ci_app, rb_ci]
      rcases hj with rfl | hj | hj | hj <;> simp_all
    have hFa : rb_F (upd a' (rb_rt D) (nI (rb_top (c2 ++ (false, m, A) :: c)))) F fr := by
      refine rb_F_fr F fr hF (fun j hj => ?_)
      have hj0 := hO.2 j (by simp [hj])
      have hjn : ∀ x, (x = m ∨ x ∈ rb_ids A ∨ x ∈ rb_ids D ∨ x ∈ rb_ci c2) → j ≠ x := fun x hx e => hFd j hj x (memT x hx) e
      have jD : j ≠ rb_rt D := by
        rcases rb_rt_mem D with e | e
        · omega
        · exact hjn _ (Or.inr (Or.inr (Or.inl e)))
      rw [rb_un jD]
      exact g2 j (by omega) (hjn m (Or.inl rfl)) (fun e => hjn j (Or.inr (Or.inl e)) rfl) (fun e => hjn j (Or.inr (Or.inr (Or.inl e))) rfl) (fun e => hjn j (Or.inr (Or.inr (Or.inr e))) rfl)
    refine rb_rm168 (F := F) b hOn ?_ hFa ?_ zD hY3 z0 w0 v0 (fq0.trans q0) rb_us ?_ ?_ ?_
    · rw [eI] at hl
      rw [eI3]
      simp only [List.length_append, List.length_cons] at hl ⊢; omega
    · refine (rb_G_pl _ _).mpr ⟨rb_L_re g3 dD (fun j hj => ⟨rfl, rfl, fun e => rb_un e⟩) (fun _ => rb_us), rb_C_fr _ _ g4 (fun j hj => ⟨rfl, rfl, rb_un ?_⟩)⟩
      intro e
      have hj0 : 0 < j := by
        rw [eci] at hj
        refine (hO1.2 j ?_).1
        simp only [List.mem_append, List.mem_cons] at hj ⊢
        rcases hj with h | h | h | h <;> simp [h]
      rcases rb_rt_mem D with e' | e'
      · omega
      · rw [← e] at e'
        rw [eci] at hj
        simp only [List.mem_append, List.mem_cons] at hj
        rcases hj with h | h | h | h
        · exact dDX j e' j (Or.inl h) rfl
        · exact mD (h ▸ e')
        · exact dAX j h j (Or.inl e') rfl
        · exact dDX j e' j (Or.inr h) rfl
    · rw [eI3]
      rw [eI] at hs
      refine List.Pairwise.sublist ?_ hs
      exact List.Sublist.append (List.Sublist.refl _) (List.Sublist.append (List.Sublist.append (List.Sublist.refl _) (List.sublist_cons_self _ _)) (List.Sublist.refl _))
    · have fD : ∀ i, rb_B q D i → rb_B (upd q m (q n)) D i := fun i hi => rb_B_fr D i hi (fun j hj => fq j (fun e => mD (e ▸ hj))) fq0
      rcases rb_B_in.mp b1 with ⟨x0, i, x1, x2, x3⟩ | ⟨x0, x1, x2, x3, x4⟩
      · subst x1
        rcases hb with ⟨hb, _⟩ | ⟨_, hb⟩
        · exact ⟨i, fD i x3, Or.inl ⟨hb, hK3 _ b2⟩⟩
        · exact absurd x0 hb
      · rcases hb with ⟨_, hb⟩ | ⟨hb, _⟩
        · exact absurd (x0.symm.trans hb) rb_01
        · exact ⟨h, fD h x4, Or.inr ⟨hb, hK3 _ b2, Or.inl ((rb_q_rt D (fun j hj => fq j (fun e => mD (e ▸ hj))) fq0).trans x2)⟩⟩
    · rw [eI3]; exact hp
  unfold wX_removeNode_119
  rw [rb_clm hM.2, l2]
  refine ⟨rb_vi hM.2, nm_e ⟨rb_vi hM.2, ?_⟩⟩
  have main : ∀ x : Int32, x = nI (rb_top (c2 ++ (false, m, A) :: c)) → wX_removeNode_151 post (nI n) (rb_bI b) (nI (rb_rt D)) (nI m) x R fr cu l r a q k v z w := by
    intro x hx
    subst hx
    unfold wX_removeNode_151
    refine rb_pip (c := c) (c2 := c2) (A := A) (D := D) hO1 hA0 hG2 qn ?_
    intro R' l' r' a' g1 g2
    dsimp only
    rw [rb_clm rD49]
    exact ⟨rb_vi rD49, nm_e (fin R' l' r' a' g1 g2)⟩
  cases c2 with
  | nil => exact br_t l3 (main _ rfl)
  | cons f c2 =>
    obtain ⟨d, y, s⟩ := f
    have hy := hO1.2 y (by rw [rb_ci]; simp)
    have l3' : a m = nI y := l3
    refine br_f ?_ ⟨rb_vi hM.2, main _ l3'⟩
    rw [l3', rb_eqn hy.2 hN.2]
    intro e
    exact n2 (by rw [rb_ci, e]; simp)
theorem rb_removeNode {post : SX → Prop} {L1 L2 : List Nat} {n : Nat} (hI : rb_I R fr l r a q k v z w (L1 ++ n :: L2)) (hp : ∀ R' fr' l' r' a' q' z' w', rb_I R' fr' l' r' a' q' k v z' w' (L1 ++ L2) → post (R', fr', (if cu = nI n then nI (L2.headD 0) else cu), l', r', a', q', k, v, z', w')) : wpX_removeNode post (R, fr, cu, l, r, a, q, k, v, z, w) (nI n) := by
  obtain ⟨T, F, H, eT, hO, hl, hF, hG, hZ, hB, hr, q0, z0, w0, v0, hs⟩ := hI
  obtain ⟨c, A, B, rfl⟩ := rb_zip n T (by rw [eT]; simp)
  have eI := rb_ids_pl c (rb_in A n B)
  rw [rb_ids_in] at eI
  have hOT := rb_O_r hO
  have hd := hOT.1
  have e1 : L1 ++ n :: L2 = (rb_cl c ++ rb_ids A) ++ n :: (rb_ids B ++ rb_cr c) := by rw [← eT, eI]; simp
  have hn1 : n ∉ L1 := fun e => (List.nodup_append.mp hd).2.2 n e n (by simp) rfl
  have hn2 : n ∉ rb_cl c ++ rb_ids A := by
    rw [e1] at hd
    exact fun e => (List.nodup_append.mp hd).2.2 n e n (by simp) rfl
  obtain ⟨eL1, eL2⟩ := rb_uniq hn1 hn2 e1
  rw [← eT] at hO hl hs hOT
  have hO2 := rb_O_pl.mp hOT
  rw [rb_ids_in] at hO2
  have hN := hO2.2 n (by simp)
  have rA : ∀ j, j ∈ rb_ids A → 0 < j ∧ j < 49 := fun j hj => hO2.2 j (by simp [hj])
  have rB : ∀ j, j ∈ rb_ids B → 0 < j ∧ j < 49 := fun j hj => hO2.2 j (by simp [hj])
  obtain ⟨hL, hC⟩ := (rb_G_pl c _).mp hG
  obtain ⟨l1, l2, l3, l4, l5⟩ := rb_L_in.mp hL
  have hlen : (rb_ids (rb_in A n B) ++ rb_ci c).length ≤ 48 := by
    rw [← (rb_perm c (rb_in A n B)).length_eq]; omega
  have hBl : (rb_ids B).length ≤ 47 := by
    rw [rb_ids_in] at hlen
    simp only [List.length_append, List.length_cons] at hlen; omega
  obtain ⟨h, b1, b2, b3⟩ := rb_B_dn c _ H hB hr
  have qn : q n = 0 ∨ q n = 1 := by
    rcases rb_B_in.mp b1 with ⟨x0, _⟩ | ⟨x0, _⟩
    · exact Or.inl x0
    · exact Or.inr x0
  have eL : L1 ++ L2 = rb_cl c ++ ((rb_ids A ++ rb_ids B) ++ rb_cr c) := by rw [eL1, eL2]; simp
  rw [eL] at hp
  have m17 : ∀ cu' : Int32, (∀ R' fr' l' r' a' q' z' w', rb_I R' fr' l' r' a' q' k v z' w' (rb_cl c ++ ((rb_ids A ++ rb_ids B) ++ rb_cr c)) → post (R', fr', cu', l', r', a', q', k, v, z', w')) → wX_removeNode_17 post (nI n) R fr cu' l r a q k v z w := by
    intro cu' hp'
    have m31 : ∀ b : Bool, ((b = true ∧ q n = 0) ∨ (b = false ∧ ¬ q n = 0)) → wX_removeNode_31 post (nI n) (rb_bI b) R fr cu' l r a q k v z w := by
      intro b hb
      unfold wX_removeNode_31
      rw [rb_clm hN.2, l1, l2, rb_eq0 (rb_rt_lt rA), rb_rt_0 rA, rb_eq0 (rb_rt_lt rB), rb_rt_0 rB]
      have go50 : (A = rb_lf ∨ B = rb_lf) → wX_removeNode_50 post (nI n) (rb_bI b) R fr cu' l r a q k v z w := fun he => rb_rm50 (F := F) b hO hl hF hG hZ z0 w0 v0 q0 hs b1 b2 hb he (fun R' l' r' a' q' z' w' g => hp' R' (nI n) l' r' a' q' z' w' g)
      refine ⟨rb_vi hN.2, br_c (fun e => go50 (Or.inl e)) (fun e => ⟨rb_vi hN.2, br_c (fun e' => go50 (Or.inr e')) (fun e' => ⟨rb_vi hN.2, ?_⟩)⟩)⟩
      unfold wpX_first
      dsimp only
      refine ⟨60, rb_first4 B n 60 0 e' l5 rB (by omega) (by omega) ?_⟩
      obtain ⟨c2, m, D, eB, hcl⟩ := rb_left B e'
      have eh : (rb_ids B).headD 0 = m := by
        rw [eB, rb_ids_pl, hcl, rb_ids_in, rb_ids_lf]; rfl
      have hM := rB m (by rw [eB, rb_mem_pl, rb_ids_in]; simp)
      rw [eh, rb_clm hM.2]
      subst eB
      refine ⟨rb_vi hM.2, br_c (fun em => ?_) (fun em => ?_)⟩
      · exact rb_rm119 (F := F) true e hcl hO hl hF hG hZ z0 w0 v0 q0 hs hB hr qn (Or.inl ⟨rfl, em⟩) (fun R' l' r' a' q' z' w' g => hp' R' (nI n) l' r' a' q' z' w' g)
      · exact rb_rm119 (F := F) false e hcl hO hl hF hG hZ z0 w0 v0 q0 hs hB hr qn (Or.inr ⟨rfl, em⟩) (fun R' l' r' a' q' z' w' g => hp' R' (nI n) l' r' a' q' z' w' g)
    unfold wX_removeNode_17
    rw [rb_clm hN.2]
    exact ⟨rb_vi hN.2, br_c (fun e => m31 true (Or.inl ⟨rfl, e⟩)) (fun e => m31 false (Or.inr ⟨rfl, e⟩))⟩
  unfold wpX_removeNode
  dsimp only
  refine br_c (fun e => ?_) (fun e => ?_)
  · refine rb_behind (c := c) (A := A) (B := B) (rb_O_pl.mp hOT) hlen hL hC (m17 _ ?_)
    intro R' fr' l' r' a' q' z' w' g
    have := hp R' fr' l' r' a' q' z' w' g
    rw [if_pos e, eL2] at this
    exact this
  · refine m17 cu ?_
    intro R' fr' l' r' a' q' z' w' g
    have := hp R' fr' l' r' a' q' z' w' g
    rw [if_neg e] at this
    exact this
end
end
section
/-! put -/
section
variable {R fr cu : Int32} {l r a q k v z : rb_A} {w : rb_W}
/-- a node gets another value, then refreshUp -/
theorem rb_setv {post : SX → Prop} {L : List Nat} {n : Nat} {x : Int32} (hI : rb_I R fr l r a q k v z w L) (hn : n ∈ L) (hp : ∀ z' w', rb_I R fr l r a q k (upd v n x) z' w' L → post (R, fr, cu, l, r, a, q, k, upd v n x, z', w')) : wpX_refreshUp post (R, fr, cu, l, r, a, q, k, upd v n x, z, w) (nI n) := by
  obtain ⟨T, F, H, eT, hO, hl, hF, hG, hZ, hB, hr, q0, z0, w0, v0, hs⟩ := hI
  obtain ⟨c, A, B, rfl⟩ := rb_zip n T (by rw [eT]; exact hn)
  have hOT := rb_O_r hO
  rw [← eT] at hOT
  have eP : rb_pl c (rb_in A n B) = rb_pl ((true, n, B) :: c) A := rfl
  have hO2 : rb_O (rb_ids A ++ rb_ci ((true, n, B) :: c)) := rb_O_pl.mp hOT
  have hC := ((rb_G_pl ((true, n, B) :: c) A).mp hG).2
  obtain ⟨zA, ⟨zB, hY⟩, _⟩ := (rb_Z_pl ((true, n, B) :: c) A).mp hZ
  have hO3 := hO2
  rw [rb_ci] at hO3
  have hN := hO3.2 n (by simp)
  have dd := hO3.1
  simp only [List.nodup_append, List.nodup_cons, List.mem_append, List.mem_cons, not_or] at dd
  have nA : ∀ j, j ∈ rb_ids A → j ≠ n := fun j hj => dd.2.2 j hj n (Or.inl rfl)
  have nB : ∀ j, j ∈ rb_ids B → j ≠ n := fun j hj e => dd.2.1.1.1 (e ▸ hj)
  have nc : ∀ j, j ∈ rb_ci c → j ≠ n := fun j hj e => dd.2.1.1.2 (e ▸ hj)
  have hcl : ((true, n, B) :: c).length ≤ 48 := by
    have h1 := rb_ci_len ((true, n, B) :: c)
    have h2 := (rb_perm ((true, n, B) :: c) A).length_eq
    simp only [List.length_append] at h2
    rw [← eP, eT] at h2
    omega
  refine rb_refreshUp (c := (true, n, B) :: c) (t := A) hO2 hcl hC (rb_Z_fr A zA (fun j hj => ⟨rb_un (nA j hj), rfl, rfl⟩)) ⟨rb_Z_fr B zB (fun j hj => ⟨rb_un (nB j hj), rfl, rfl⟩), rb_Y_fr c hY (fun j hj => ⟨rb_un (nc j hj), rfl, rfl⟩)⟩ z0 w0 ?_
  intro z' w' hZ' hf
  have h0 : (0 : Nat) ∉ rb_ci ((true, n, B) :: c) := fun e => absurd (hO2.2 0 (List.mem_append.mpr (Or.inr e))).1 (by omega)
  exact hp z' w' ⟨_, F, H, eT, hO, hl, hF, hG, hZ', hB, hr, q0, (hf 0 h0).1.trans z0, (hf 0 h0).2.trans w0, (rb_un (by omega)).trans v0, hs⟩
theorem rb_put11 {post : Int32 → SX → Prop} {x x2 : Int32} (t : rb_T) : ∀ (c : rb_X) (f i : Nat), rb_G R l r a (rb_pl c t) → rb_O (rb_ids (rb_pl c t)) → (rb_ids t).Pairwise (fun i j => k i < k j) → (∀ j, j ∈ rb_cl c → k j < x) → (∀ j, j ∈ rb_cr c → x < k j) → i + (rb_ids t).length ≤ 48 → (rb_ids t).length < f →
    (∀ c' A n B, rb_pl c t = rb_pl c' (rb_in A n B) → k n = x → wpX_refreshUp (fun u => match u with | (f_root_62, f_free_63, f_cursor_64, a_left_65, a_right_66, a_above_67, a_red_68, a_keyOf_69, a_valueOf_70, a_size_71, a_total_72) => (post 0 (f_root_62, f_free_63, f_cursor_64, a_left_65, a_right_66, a_above_67, a_red_68, a_keyOf_69, a_valueOf_70, a_size_71, a_total_72))) (R, fr, cu, l, r, a, q, k, upd v n x2, z, w) (nI n)) →
    (∀ c', rb_pl c t = rb_pl c' rb_lf → (∀ j, j ∈ rb_cl c' → k j < x) → (∀ j, j ∈ rb_cr c' → x < k j) → wX_put_89 post x x2 (nI (rb_top c')) R fr cu l r a q k v z w) → wX_put_11 post x x2 R fr cu l r a q k v z w f (nI (rb_top c)) (nI (rb_rt t)) (nI i) := by
  induction t using rb_ind with
  | lf =>
    intro c f i _ _ _ h1 h2 hi hf _ hn
    obtain ⟨f, rfl⟩ : ∃ g, f = g + 1 := ⟨f - 1, by omega⟩
    have hz := hn c rfl h1 h2
    exact br_c (fun _ => hz) (fun _ => br_t rb_z0 hz)
  | nd A n B iA iB =>
    intro c f i hG hO hs h1 h2 hi hf hfd hn
    obtain ⟨f, rfl⟩ : ∃ g, f = g + 1 := ⟨f - 1, by omega⟩
    obtain ⟨l1, l2, l3, l4, l5⟩ := rb_L_in.mp ((rb_G_pl c _).mp hG).1
    have hO1 := rb_O_pl.mp hO
    rw [rb_ids_in] at hs hi hf hO1
    obtain ⟨s1, s2, s3⟩ := List.pairwise_append.mp hs
    obtain ⟨s4, s5⟩ := List.pairwise_cons.mp s2
    have hN := hO1.2 n (by simp)
    simp only [List.length_append, List.length_cons] at hi hf
    rw [rb_rt_in]
    refine br_f (by rw [rb_48 (by omega)]; omega) (br_f (by rw [rb_le0 hN.2]; omega) ⟨rb_vi hN.2, ?_⟩)
    rw [rb_clm hN.2]
    refine br_c (fun e => ⟨rb_vi hN.2, nm_e (hfd c A n B rfl e)⟩) (fun e => ⟨rb_vi hN.2, br_c (fun g => ⟨rb_vi hN.2, nm_r l2 (nm_r (nI_1 i) ?_)⟩) (fun g => ⟨rb_vi hN.2, nm_r l1 (nm_r (nI_1 i) ?_)⟩)⟩)
    · have g' : k n < x := Int32.lt_of_le_of_ne g e
      refine iB ((false, n, A) :: c) f (i + 1) hG hO s5 ?_ h2 (by omega) (by omega) hfd hn
      intro j hj
      rw [rb_cl, List.mem_append] at hj
      rcases hj with hj | hj
      · exact h1 j hj
      · rcases List.mem_append.mp hj with hj | hj
        · exact Int32.lt_trans (s3 j hj n List.mem_cons_self) g'
        · rw [List.mem_singleton.mp hj]; exact g'
    · have g' : x < k n := Int32.not_le.mp g
      refine iA ((true, n, B) :: c) f (i + 1) hG hO s1 ?_ ?_ (by omega) (by omega) hfd hn
      · intro j hj
        rw [rb_cl] at hj
        exact h1 j (by simpa using hj)
      · intro j hj
        rw [rb_cr, List.mem_append] at hj
        rcases hj with hj | hj
        · rcases List.mem_cons.mp hj with rfl | hj
          · exact g'
          · exact Int32.lt_trans g' (s4 j hj)
        · exact h2 j hj
theorem rb_put89 {post : Int32 → SX → Prop} {x x2 : Int32} {c : rb_X} {F : List Nat} {H : Nat} (hO : rb_O (F ++ rb_ids (rb_pl c rb_lf))) (hl : F.length + (rb_ids (rb_pl c rb_lf)).length = 48) (hF : rb_F a F fr) (hG : rb_G R l r a (rb_pl c rb_lf)) (hZ : rb_Z v z w (rb_pl c rb_lf)) (hB : rb_B q (rb_pl c rb_lf) H) (hr : q (rb_rt (rb_pl c rb_lf)) = 0) (q0 : q 0 = 0) (z0 : z 0 = 0) (w0 : w 0 = 0) (v0 : v 0 = 0) (hs : (rb_ids (rb_pl c rb_lf)).Pairwise (fun i j => k i < k j)) (h1 : ∀ j, j ∈ rb_cl c → k j < x) (h2 : ∀ j, j ∈ rb_cr c → x < k j)
    (hm : (rb_ids (rb_pl c rb_lf)).length = 48 → post (-1) (R, fr, cu, l, r, a, q, k, v, z, w))
    (hp : ∀ n R' fr' l' r' a' q' z' w', (rb_ids (rb_pl c rb_lf)).length < 48 → n ∉ rb_ids (rb_pl c rb_lf) → 0 < n → rb_I R' fr' l' r' a' q' (upd k n x) (upd v n x2) z' w' (rb_cl c ++ n :: rb_cr c) → post 1 (R', fr', cu, l', r', a', q', upd k n x, upd v n x2, z', w')) : wX_put_89 post x x2 (nI (rb_top c)) R fr cu l r a q k v z w := by
  unfold wX_put_89
  cases F with
  | nil =>
    refine br_t hF (hm ?_)
    simp only [List.length_nil] at hl; omega
  | cons n F =>
    obtain ⟨hF1, hF2⟩ := hF
    have hN := hO.2 n (by simp)
    simp only [List.length_cons] at hl
    have eI := rb_ids_pl c rb_lf
    rw [rb_ids_lf, List.nil_append] at eI
    have dO := List.nodup_append.mp hO.1
    have nT : n ∉ rb_ids (rb_pl c rb_lf) := fun e => dO.2.2 n List.mem_cons_self n e rfl
    have nF : n ∉ F := (List.nodup_cons.mp dO.1).1
    have FT : ∀ j, j ∈ F → j ∉ rb_ids (rb_pl c rb_lf) := fun j hj e => dO.2.2 j (List.mem_cons_of_mem _ hj) j e rfl
    have hOT := rb_O_r hO
    have hOc := rb_O_pl.mp hOT
    rw [rb_ids_lf, List.nil_append] at hOc
    have nc : n ∉ rb_ci c := fun e => nT (by rw [rb_mem_pl]; exact Or.inr e)
    obtain ⟨_, hC⟩ := (rb_G_pl c rb_lf).mp hG
    obtain ⟨_, hY, _⟩ := (rb_Z_pl c rb_lf).mp hZ
    obtain ⟨h, b1, b2, _⟩ := rb_B_dn c rb_lf H hB hr
    rw [rb_B_lf] at b1
    subst b1
    have cn : ∀ j, j ∈ rb_ci c → j ≠ n := fun j hj e => nc (e ▸ hj)
    have n0 : (0 : Nat) ≠ n := by omega
    have eTn : rb_ids (rb_pl c (rb_in rb_lf n rb_lf)) = rb_cl c ++ n :: rb_cr c := by
      rw [rb_ids_pl, rb_ids_in, rb_ids_lf]; rfl
    have hOn : rb_O (F ++ (rb_cl c ++ n :: rb_cr c)) := by
      refine (rb_O_perm (List.perm_iff_count.mpr (fun y => ?_))).mp hO
      rw [eI]
      simp only [List.count_append, List.count_cons]; omega
    have hsn : (rb_cl c ++ n :: rb_cr c).Pairwise (fun i j => upd k n x i < upd k n x j) := by
      rw [eI] at hs nT
      obtain ⟨t1, t2, t3⟩ := List.pairwise_append.mp hs
      have f1 : ∀ j, j ∈ rb_cl c → upd k n x j = k j := fun j hj => rb_un (fun e => nT (e ▸ List.mem_append.mpr (Or.inl hj)))
      have f2 : ∀ j, j ∈ rb_cr c → upd k n x j = k j := fun j hj => rb_un (fun e => nT (e ▸ List.mem_append.mpr (Or.inr hj)))
      have fn : upd k n x n = x := rb_us
      refine List.pairwise_append.mpr ⟨?_, List.pairwise_cons.mpr ⟨?_, ?_⟩, ?_⟩
      · exact List.Pairwise.imp_of_mem (fun hi hj hij => by rw [f1 _ hi, f1 _ hj]; exact hij) t1
      · intro j hj
        rw [fn, f2 j hj]; exact h2 j hj
      · exact List.Pairwise.imp_of_mem (fun hi hj hij => by rw [f2 _ hi, f2 _ hj]; exact hij) t2
      · intro i hi j hj
        rw [f1 i hi]
        rcases List.mem_cons.mp hj with rfl | hj
        · rw [fn]; exact h1 i hi
        · rw [f2 j hj]; exact t3 i hi j hj
    rw [hF1, rb_clm hN.2, rb_n1]
    refine br_f (by rw [rb_eq0 hN.2]; omega) ⟨rb_vi hN.2, nm_e ⟨rb_vi hN.2, nm_e ⟨rb_vi hN.2, nm_e ⟨rb_vi hN.2, nm_e ⟨rb_vi hN.2, nm_e ⟨rb_vi hN.2, nm_e ⟨rb_vi hN.2, nm_e ?_⟩⟩⟩⟩⟩⟩⟩
    have main : ∀ R' l' r', rb_C R' l' r' (upd a n (nI (rb_top c))) c n → l' n = 0 → r' n = 0 → wX_put_205 post (nI n) R' (a n) cu l' r' (upd a n (nI (rb_top c))) (upd q n 1) (upd k n x) (upd v n x2) z w := by
      intro R' l' r' hC' ln rn
      have hG' : rb_G R' l' r' (upd a n (nI (rb_top c))) (rb_pl c (rb_in rb_lf n rb_lf)) := (rb_G_pl c _).mpr ⟨rb_L_in.mpr ⟨ln, rn, rb_us, True.intro, True.intro⟩, hC'⟩
      have hOT' : rb_O (rb_ids (rb_pl c (rb_in rb_lf n rb_lf))) := by rw [eTn]; exact rb_O_r hOn
      have hcl : ((true, n, rb_lf) :: c).length ≤ 48 := by
        have g1 := rb_ci_len c
        have g2 := (rb_perm c rb_lf).length_eq
        simp only [rb_ids_lf, List.nil_append] at g2
        simp only [List.length_cons]; omega
      unfold wX_put_205
      refine rb_refreshUp (c := (true, n, rb_lf) :: c) (t := rb_lf) (rb_O_pl.mp hOT') hcl (((rb_G_pl ((true, n, rb_lf) :: c) rb_lf).mp hG').2) True.intro ⟨True.intro, rb_Y_fr c hY (fun j hj => ⟨rb_un (cn j hj), rfl, rfl⟩)⟩ z0 w0 ?_
      intro z' w' hZ' hf
      dsimp only
      have h0 : (0 : Nat) ∉ rb_ci ((true, n, rb_lf) :: c) := fun e => absurd ((rb_O_pl.mp hOT' : rb_O (rb_ids rb_lf ++ rb_ci ((true, n, rb_lf) :: c))).2 0 (List.mem_append.mpr (Or.inr e))).1 (by omega)
      have z0' := (hf 0 h0).1.trans z0
      have w0' := (hf 0 h0).2.trans w0
      have q0' : upd q n 1 0 = q 0 := rb_un n0
      unfold wpX_settleAdded
      dsimp only
      simp only [List.length_cons] at hcl
      refine ⟨60, rb_saLoop 60 c (rb_in rb_lf n rb_lf) 0 0 (upd q n 1) rb_in_ne (by omega) (by omega) hOT' hG' hZ' z0' w0' (q0'.trans q0) rb_us (rb_B_in.mpr (Or.inr ⟨rb_us, q0'.trans q0, q0'.trans q0, rfl, rfl⟩)) (rb_K_fr c 0 b2 (fun j hj => rb_un (cn j hj)) q0') ?_⟩
      intro R'' l'' r'' a'' q'' z'' w'' T H' o1 o2 o3 o4 o5 o6 o7
      dsimp only
      rw [eTn] at o1
      have h0T : (0 : Nat) ∉ rb_ids T := fun e => by
        rw [o1] at e
        exact absurd ((rb_O_r hOn).2 0 e).1 (by omega)
      refine hp n R'' (a n) l'' r'' a'' q'' z'' w'' (by omega) nT hN.1 ⟨T, F, H', o1, hOn, ?_, ?_, o2, o3, o4, o5, o6, (o7 0 h0T).2.1.trans z0', (o7 0 h0T).2.2.trans w0', (rb_un n0).trans v0, hsn⟩
      · rw [eI] at hl
        simp only [List.length_append, List.length_cons] at hl ⊢; omega
      · refine rb_F_fr F (a n) hF2 (fun j hj => ?_)
        have jT : j ∉ rb_ids T := fun e => by
          rw [o1] at e
          exact (List.nodup_append.mp hOn.1).2.2 j hj j e rfl
        exact (o7 j jT).1.trans (rb_un (fun e => nF (e ▸ hj)))
    cases c with
    | nil =>
      exact br_t rfl (main (nI n) _ _ rfl rb_us rb_us)
    | cons f c =>
      obtain ⟨d, p, s⟩ := f
      obtain ⟨c1, c2, c3, c4, c5⟩ := rb_C_cons.mp hC
      rw [rb_ci] at hOc cn
      have hP := hOc.2 p List.mem_cons_self
      have pn : p ≠ n := cn p List.mem_cons_self
      obtain ⟨d1, d2⟩ := List.nodup_cons.mp hOc.1
      have ps : ∀ j, j ∈ rb_ids s → j ≠ p := fun j hj e => d1 (by rw [← e]; simp [hj])
      have pc : ∀ j, j ∈ rb_ci c → j ≠ p := fun j hj e => d1 (by rw [← e]; simp [hj])
      have ns : ∀ j, j ∈ rb_ids s → j ≠ n := fun j hj => cn j (by simp [hj])
      have nc' : ∀ j, j ∈ rb_ci c → j ≠ n := fun j hj => cn j (by simp [hj])
      have etop : rb_top ((d, p, s) :: c) = p := rfl
      rw [etop] at main ⊢
      rw [rb_clm hP.2, rb_un pn]
      refine br_f (by rw [rb_eq0 hP.2]; omega) ⟨rb_vi hP.2, ?_⟩
      cases d with
      | true =>
        have g := h2 p (by rw [rb_cr]; simp)
        refine br_f (fun e => Int32.not_le.mpr g e) ⟨rb_vi hP.2, nm_e (main R _ _ ?_ ?_ rb_us)⟩
        · refine rb_C_cons.mpr ⟨rb_us, (rb_un pn).trans c2, (rb_un pn).trans c3, rb_L_fr s p c4 (fun j hj => ⟨(rb_un (ps j hj)).trans (rb_un (ns j hj)), rb_un (ns j hj), rb_un (ns j hj)⟩), rb_C_fr c p c5 (fun j hj => ⟨(rb_un (pc j hj)).trans (rb_un (nc' j hj)), rb_un (nc' j hj), rb_un (nc' j hj)⟩)⟩
        · exact (rb_un (Ne.symm pn)).trans rb_us
      | false =>
        have g := h1 p (by rw [rb_cl]; simp)
        refine br_t (Int32.le_of_lt g) ⟨rb_vi hP.2, nm_e (main R _ _ ?_ rb_us ?_)⟩
        · refine rb_C_cons.mpr ⟨rb_us, (rb_un pn).trans c2, (rb_un pn).trans c3, rb_L_fr s p c4 (fun j hj => ⟨rb_un (ns j hj), (rb_un (ps j hj)).trans (rb_un (ns j hj)), rb_un (ns j hj)⟩), rb_C_fr c p c5 (fun j hj => ⟨rb_un (nc' j hj), (rb_un (pc j hj)).trans (rb_un (nc' j hj)), rb_un (nc' j hj)⟩)⟩
        · exact (rb_un (Ne.symm pn)).trans rb_us
theorem rb_put {post : Int32 → SX → Prop} {x x2 : Int32} {L : List Nat} (hI : rb_I R fr l r a q k v z w L)
    (h0 : ∀ L1 n L2 z' w', L = L1 ++ n :: L2 → k n = x → rb_I R fr l r a q k (upd v n x2) z' w' L → post 0 (R, fr, cu, l, r, a, q, k, upd v n x2, z', w'))
    (h1 : L.length = 48 → (∀ j, j ∈ L → k j ≠ x) → post (-1) (R, fr, cu, l, r, a, q, k, v, z, w))
    (h2 : ∀ L1 L2 n R' fr' l' r' a' q' z' w', L = L1 ++ L2 → (∀ j, j ∈ L1 → k j < x) → (∀ j, j ∈ L2 → x < k j) → L.length < 48 → n ∉ L → 0 < n → rb_I R' fr' l' r' a' q' (upd k n x) (upd v n x2) z' w' (L1 ++ n :: L2) → post 1 (R', fr', cu, l', r', a', q', upd k n x, upd v n x2, z', w')) :
    wpX_put post (R, fr, cu, l, r, a, q, k, v, z, w) x x2 := by
  have hI0 := hI
  obtain ⟨T, F, H, eT, hO, hl, hF, hG, hZ, hB, hr, q0, z0, w0, v0, hs⟩ := hI
  have hOT := rb_O_r hO
  have hlen : (rb_ids T).length ≤ 48 := by rw [eT]; omega
  unfold wpX_put
  dsimp only
  rw [hG.2]
  refine ⟨60, rb_put11 T [] 60 0 (by rw [← hG.2]; exact hG) (by show rb_O (rb_ids T); rw [eT]; exact hOT) (by rw [eT]; exact hs) (by intro j hj; cases hj) (by intro j hj; cases hj) (by omega) (by omega) ?_ ?_⟩
  · intro c A n B e1 e2
    have e1' : T = rb_pl c (rb_in A n B) := e1
    rw [← hG.2]
    have hn : n ∈ L := by rw [← eT, e1', rb_mem_pl, rb_ids_in]; simp
    refine rb_setv hI0 hn ?_
    intro z' w' hI'
    refine h0 (rb_cl c ++ rb_ids A) n (rb_ids B ++ rb_cr c) z' w' ?_ e2 hI'
    rw [← eT, e1', rb_ids_pl, rb_ids_in]; simp
  · intro c e1 e2 e3
    have e1' : T = rb_pl c rb_lf := e1
    rw [← hG.2]
    subst e1'
    have eI := rb_ids_pl c rb_lf
    rw [rb_ids_lf, List.nil_append] at eI
    rw [← eT] at hO hl hs
    refine rb_put89 (F := F) hO hl hF hG hZ hB hr q0 z0 w0 v0 hs e2 e3 ?_ ?_
    · intro hL
      rw [eT] at hL
      refine h1 hL (fun j hj => ?_)
      rw [← eT, eI, List.mem_append] at hj
      rcases hj with hj | hj
      · exact Int32.ne_of_lt (e2 j hj)
      · exact (Int32.ne_of_lt (e3 j hj)).symm
    · intro n R' fr' l' r' a' q' z' w' g1 g2 g3 g4
      rw [eT] at g1 g2
      exact h2 (rb_cl c) (rb_cr c) n R' fr' l' r' a' q' z' w' (by rw [← eT, eI]) e2 e3 g1 g2 g3 g4
end
end
section
/-! the reference, over the sorted list of entries -/
def rb_ag (E : List (Int32 × Int32)) (ks vs : rb_A) : Prop := ∀ i e, E[i]? = some e → ks i = e.1 ∧ vs i = e.2
theorem rb_y48 {n : Nat} (h : n < 48) : vp_in (nI n) 48 := vp_in_nI h (by omega)
theorem rb_yc {n : Nat} (h : n ≤ 48) : (nI n).toNatClampNeg = n := nI_clamp (by omega)
theorem rb_yle {m n : Nat} (hm : m ≤ 48) (hn : n ≤ 48) : nI m ≤ nI n ↔ m ≤ n := nI_leI (by omega) (by omega)
theorem rb_ylt {m n : Nat} (hm : m ≤ 48) (hn : n ≤ 48) : nI m < nI n ↔ m < n := nI_ltI (by omega) (by omega)
theorem rb_yeq {m n : Nat} (hm : m ≤ 48) (hn : n ≤ 48) : nI m = nI n ↔ m = n := nI_eq (by omega) (by omega)
theorem rb_mid {α : Type} {X Y : List α} {e : α} : (X ++ e :: Y)[X.length]? = some e := by
  rw [List.getElem?_append_right (Nat.le_refl _), Nat.sub_self]; rfl
theorem rb_fore {α : Type} {X Y : List α} {i : Nat} (h : i < X.length) : ∃ e, e ∈ X ∧ X[i]? = some e ∧ (X ++ Y)[i]? = some e :=
  ⟨X[i], List.getElem_mem h, List.getElem?_eq_getElem h, by rw [List.getElem?_append_left h]; exact List.getElem?_eq_getElem h⟩
section
variable {ks vs : rb_A} {C x : Int32} {E1 E2 : List (Int32 × Int32)}
theorem rb_yb2 {post : Int32 → Prop} (hl : (E1 ++ E2).length ≤ 48) (hg : rb_ag (E1 ++ E2) ks vs) (h1 : ∀ e, e ∈ E1 → e.1 < x) (h2 : ∀ e, e ∈ E2 → x ≤ e.1) (hp : post (nI E1.length)) : ∀ d i, i + d = E1.length → wY_below_2 post x (nI (E1 ++ E2).length) C ks vs (d + 1) (nI i) := by
  have hl' := hl
  simp only [List.length_append] at hl'
  intro d
  induction d with
  | zero =>
    intro i hi
    obtain rfl : i = E1.length := by omega
    cases E2 with
    | nil => exact br_t (by rw [rb_yle hl (by omega)]; simp) hp
    | cons e E2 =>
      refine br_f (by rw [rb_yle hl (by omega)]; simp) ⟨rb_y48 (by simp at hl'; omega), ?_⟩
      rw [rb_yc (by omega), (hg _ e rb_mid).1]
      exact br_t (h2 e List.mem_cons_self) hp
  | succ d ih =>
    intro i hi
    obtain ⟨e, m1, m2, m3⟩ := rb_fore (Y := E2) (show i < E1.length by omega)
    refine br_f (by rw [rb_yle hl (by omega)]; simp only [List.length_append]; omega) ⟨rb_y48 (by omega), ?_⟩
    rw [rb_yc (by omega), (hg _ e m3).1]
    exact br_f (Int32.not_le.mpr (h1 e m1)) (nm_r (nI_1 i) (ih (i + 1) (by omega)))
theorem rb_ybelow {post : Int32 → Prop} (hl : (E1 ++ E2).length ≤ 48) (hg : rb_ag (E1 ++ E2) ks vs) (h1 : ∀ e, e ∈ E1 → e.1 < x) (h2 : ∀ e, e ∈ E2 → x ≤ e.1) (hp : post (nI E1.length)) : wpY_below post (nI (E1 ++ E2).length, C, ks, vs) x := by
  unfold wpY_below
  dsimp only
  exact ⟨_, rb_yb2 hl hg h1 h2 hp E1.length 0 (by omega)⟩
theorem rb_yholds_t {post : Int32 → Prop} {y : Int32} (hl : (E1 ++ (x, y) :: E2).length ≤ 48) (hg : rb_ag (E1 ++ (x, y) :: E2) ks vs) (h1 : ∀ e, e ∈ E1 → e.1 < x) (h2 : ∀ e, e ∈ E2 → x < e.1) (hp : post 1) : wpY_holds post (nI (E1 ++ (x, y) :: E2).length, C, ks, vs) x := by
  have hl' := hl
  simp only [List.length_append, List.length_cons] at hl'
  unfold wpY_holds
  dsimp only
  refine rb_ybelow hl hg h1 (fun e he => ?_) ?_
  · rcases List.mem_cons.mp he with rfl | he
    · exact Int32.le_refl _
    · exact Int32.le_of_lt (h2 e he)
  · rw [rb_yc (by omega), (hg _ _ rb_mid).1]
    exact br_f (by rw [rb_yle hl (by omega)]; simp) ⟨rb_y48 (by omega), br_t rfl hp⟩
theorem rb_yholds_f {post : Int32 → Prop} (hl : (E1 ++ E2).length ≤ 48) (hg : rb_ag (E1 ++ E2) ks vs) (h1 : ∀ e, e ∈ E1 → e.1 < x) (h2 : ∀ e, e ∈ E2 → x < e.1) (hp : post 0) : wpY_holds post (nI (E1 ++ E2).length, C, ks, vs) x := by
  have hl' := hl
  simp only [List.length_append] at hl'
  unfold wpY_holds
  dsimp only
  refine rb_ybelow hl hg h1 (fun e he => Int32.le_of_lt (h2 e he)) ?_
  cases E2 with
  | nil => exact br_t (by rw [rb_yle hl (by omega)]; simp) hp
  | cons e E2 =>
    simp only [List.length_cons] at hl'
    rw [rb_yc (by omega), (hg _ _ rb_mid).1]
    exact br_f (by rw [rb_yle hl (by omega)]; simp) ⟨rb_y48 (by omega), br_f (Int32.ne_of_lt (h2 e List.mem_cons_self)).symm hp⟩
theorem rb_le_of_lt {x : Int32} {E : List (Int32 × Int32)} (h2 : ∀ e, e ∈ E → x < e.1) : ∀ e, e ∈ E → x ≤ e.1 := fun e he => Int32.le_of_lt (h2 e he)
theorem rb_le_cons {x y : Int32} {E : List (Int32 × Int32)} (h2 : ∀ e, e ∈ E → x < e.1) : ∀ e, e ∈ (x, y) :: E → x ≤ e.1 := by
  intro e he
  rcases List.mem_cons.mp he with rfl | he
  · exact Int32.le_refl _
  · exact Int32.le_of_lt (h2 e he)
theorem rb_01' : ¬ (1 : Int32) = 0 := by decide
theorem rb_yget_t {post : Int32 → Prop} {y : Int32} (hl : (E1 ++ (x, y) :: E2).length ≤ 48) (hg : rb_ag (E1 ++ (x, y) :: E2) ks vs) (h1 : ∀ e, e ∈ E1 → e.1 < x) (h2 : ∀ e, e ∈ E2 → x < e.1) (hp : post y) : wpY_get post (nI (E1 ++ (x, y) :: E2).length, C, ks, vs) x := by
  have hl' := hl
  simp only [List.length_append, List.length_cons] at hl'
  unfold wpY_get
  dsimp only
  refine rb_ybelow hl hg h1 (rb_le_cons h2) (rb_yholds_t hl hg h1 h2 (br_f rb_01' ⟨rb_y48 (by omega), ?_⟩))
  rw [rb_yc (by omega), (hg _ _ rb_mid).2]; exact hp
theorem rb_yget_f {post : Int32 → Prop} (hl : (E1 ++ E2).length ≤ 48) (hg : rb_ag (E1 ++ E2) ks vs) (h1 : ∀ e, e ∈ E1 → e.1 < x) (h2 : ∀ e, e ∈ E2 → x < e.1) (hp : post 0) : wpY_get post (nI (E1 ++ E2).length, C, ks, vs) x := by
  unfold wpY_get
  dsimp only
  exact rb_ybelow hl hg h1 (rb_le_of_lt h2) (rb_yholds_f hl hg h1 h2 (br_t rfl hp))
theorem rb_yplace_t {post : Int32 → Prop} {y : Int32} (hl : (E1 ++ (x, y) :: E2).length ≤ 48) (hg : rb_ag (E1 ++ (x, y) :: E2) ks vs) (h1 : ∀ e, e ∈ E1 → e.1 < x) (h2 : ∀ e, e ∈ E2 → x < e.1) (hp : post (nI E1.length)) : wpY_place post (nI (E1 ++ (x, y) :: E2).length, C, ks, vs) x := by
  unfold wpY_place
  dsimp only
  exact rb_yholds_t hl hg h1 h2 (br_f rb_01' (rb_ybelow hl hg h1 (rb_le_cons h2) hp))
theorem rb_yplace_f {post : Int32 → Prop} (hl : (E1 ++ E2).length ≤ 48) (hg : rb_ag (E1 ++ E2) ks vs) (h1 : ∀ e, e ∈ E1 → e.1 < x) (h2 : ∀ e, e ∈ E2 → x < e.1) (hp : post (-1)) : wpY_place post (nI (E1 ++ E2).length, C, ks, vs) x := by
  unfold wpY_place
  dsimp only
  exact rb_yholds_f hl hg h1 h2 (br_t rfl hp)
/-- put: the key is there -/
theorem rb_yput_old {post : Int32 → SY → Prop} {y x2 : Int32} (hl : (E1 ++ (x, y) :: E2).length ≤ 48) (hg : rb_ag (E1 ++ (x, y) :: E2) ks vs) (h1 : ∀ e, e ∈ E1 → e.1 < x) (h2 : ∀ e, e ∈ E2 → x < e.1) (hp : ∀ vs', rb_ag (E1 ++ (x, x2) :: E2) ks vs' → post 0 (nI (E1 ++ (x, y) :: E2).length, C, ks, vs')) : wpY_put post (nI (E1 ++ (x, y) :: E2).length, C, ks, vs) x x2 := by
  have hl' := hl
  simp only [List.length_append, List.length_cons] at hl'
  unfold wpY_put
  dsimp only
  refine rb_ybelow hl hg h1 (rb_le_cons h2) (rb_yholds_t hl hg h1 h2 (br_f rb_01' ⟨rb_y48 (by omega), nm_e (hp _ ?_)⟩))
  rw [rb_yc (by omega)]
  intro i e he
  by_cases hi : i = E1.length
  · subst hi
    rw [rb_mid] at he
    cases he
    exact ⟨(hg _ _ rb_mid).1, rb_us⟩
  · rw [rb_un hi]
    refine hg i e ?_
    rcases Nat.lt_or_ge i E1.length with h | h
    · rw [List.getElem?_append_left h] at he ⊢; exact he
    · obtain ⟨d, rfl⟩ : ∃ d, i = E1.length + (d + 1) := ⟨i - E1.length - 1, by omega⟩
      rw [List.getElem?_append_right (by omega), Nat.add_sub_cancel_left] at he ⊢
      exact he
theorem rb_yput_full {post : Int32 → SY → Prop} {x2 : Int32} (hl : (E1 ++ E2).length = 48) (hg : rb_ag (E1 ++ E2) ks vs) (h1 : ∀ e, e ∈ E1 → e.1 < x) (h2 : ∀ e, e ∈ E2 → x < e.1) (hp : post (-1) (nI (E1 ++ E2).length, C, ks, vs)) : wpY_put post (nI (E1 ++ E2).length, C, ks, vs) x x2 := by
  unfold wpY_put
  dsimp only
  refine rb_ybelow (by omega) hg h1 (rb_le_of_lt h2) (rb_yholds_f (by omega) hg h1 h2 (br_t rfl (br_t ?_ hp)))
  rw [hl]; rfl
theorem rb_yput40 {post : Int32 → SY → Prop} {x2 : Int32} {cy : Nat} (hl : (E1 ++ E2).length < 48) (hcy : cy ≤ (E1 ++ E2).length) (hp : ∀ ks' vs', rb_ag (E1 ++ (x, x2) :: E2) ks' vs' → post 1 (nI (E1 ++ (x, x2) :: E2).length, nI (if cy < E1.length then cy else cy + 1), ks', vs')) : ∀ d ks vs, d ≤ E2.length → (∀ j e, (E1 ++ E2)[j]? = some e → (j < E1.length + d → ks j = e.1 ∧ vs j = e.2) ∧ (E1.length + d ≤ j → ks (j + 1) = e.1 ∧ vs (j + 1) = e.2)) → wY_put_40 post x x2 (nI E1.length) (nI (E1 ++ E2).length) (nI cy) (d + 1) (nI (E1.length + d)) ks vs := by
  have hl' := hl
  simp only [List.length_append] at hl' hcy
  intro d
  induction d with
  | zero =>
    intro ks vs _ hg
    have fin : ∀ cy', cy' = (if cy < E1.length then cy else cy + 1) → wY_put_127 post (nI (E1 ++ E2).length) (nI cy') (upd ks E1.length x) (upd vs E1.length x2) := by
      intro cy' hc
      unfold wY_put_127
      have e1 : nI (E1 ++ E2).length + 1 = nI (E1 ++ (x, x2) :: E2).length := by
        rw [nI_1]; exact congrArg nI (by simp; omega)
      refine nm_r e1 ?_
      rw [hc]
      refine hp _ _ ?_
      intro i e he
      by_cases hi : i = E1.length
      · subst hi
        rw [rb_mid] at he
        cases he
        exact ⟨rb_us, rb_us⟩
      · rw [rb_un hi, rb_un hi]
        rcases Nat.lt_or_ge i E1.length with h | h
        · rw [List.getElem?_append_left h] at he
          exact (hg i e (by rw [List.getElem?_append_left h]; exact he)).1 (by omega)
        · obtain ⟨d, rfl⟩ : ∃ d, i = E1.length + (d + 1) := ⟨i - E1.length - 1, by omega⟩
          rw [List.getElem?_append_right (by omega), Nat.add_sub_cancel_left] at he
          refine (hg (E1.length + d) e ?_).2 (by omega)
          rw [List.getElem?_append_right (by omega), Nat.add_sub_cancel_left]; exact he
    have fin2 : ¬ cy < E1.length → wY_put_117 post (nI (E1 ++ E2).length) (nI cy) (upd ks E1.length x) (upd vs E1.length x2) := by
      intro hc
      unfold wY_put_117
      exact nm_r (nI_1 cy) (fin (cy + 1) (by rw [if_neg hc]))
    refine br_t (by rw [rb_yle (by omega) (by omega)]; omega) ⟨rb_y48 (by omega), ?_⟩
    rw [rb_yc (by omega)]
    refine nm_e ⟨rb_y48 (by omega), nm_e (br_c (fun e => ?_) (fun e => ?_))⟩
    · rw [rb_yeq (by omega) (by omega)] at e
      simp only [List.length_append] at e
      exact fin2 (by omega)
    · refine br_c (fun g => ?_) (fun g => ?_)
      · rw [rb_ylt (by omega) (by omega)] at g
        exact fin cy (by rw [if_pos g])
      · rw [rb_ylt (by omega) (by omega)] at g
        exact fin2 g
  | succ d ih =>
    intro ks vs hd hg
    have e1 : nI (E1.length + (d + 1)) - 1 = nI (E1.length + d) := nI_pred _
    have e2 : nI (E1.length + (d + 1)) + (-1) = nI (E1.length + d) := by
      rw [← Int32.sub_eq_add_neg]; exact nI_pred _
    refine br_f (by rw [rb_yle (by omega) (by omega)]; omega) ?_
    rw [e1, rb_yc (by omega), rb_yc (by omega)]
    refine ⟨rb_y48 (by omega), rb_y48 (by omega), nm_e ⟨rb_y48 (by omega), rb_y48 (by omega), nm_e (nm_r e2 (ih _ _ (by omega) ?_))⟩⟩
    intro j e he
    refine ⟨fun h => ?_, fun h => ?_⟩
    · rw [rb_un (by omega), rb_un (by omega)]
      exact (hg j e he).1 (by omega)
    · by_cases hj : j = E1.length + d
      · subst hj
        have g := (hg _ e he).1 (by omega)
        have ee : E1.length + d + 1 = E1.length + (d + 1) := by omega
        rw [ee, rb_us, rb_us]; exact g
      · rw [rb_un (by omega), rb_un (by omega)]
        exact (hg j e he).2 (by omega)
theorem rb_yput_new {post : Int32 → SY → Prop} {x2 : Int32} {cy : Nat} (hl : (E1 ++ E2).length < 48) (hcy : cy ≤ (E1 ++ E2).length) (hg : rb_ag (E1 ++ E2) ks vs) (h1 : ∀ e, e ∈ E1 → e.1 < x) (h2 : ∀ e, e ∈ E2 → x < e.1) (hp : ∀ ks' vs', rb_ag (E1 ++ (x, x2) :: E2) ks' vs' → post 1 (nI (E1 ++ (x, x2) :: E2).length, nI (if cy < E1.length then cy else cy + 1), ks', vs')) : wpY_put post (nI (E1 ++ E2).length, nI cy, ks, vs) x x2 := by
  unfold wpY_put
  dsimp only
  refine rb_ybelow (by omega) hg h1 (rb_le_of_lt h2) (rb_yholds_f (by omega) hg h1 h2 (br_t rfl (br_f ?_ ⟨E2.length + 1, ?_⟩)))
  · intro e
    have e' : nI (E1 ++ E2).length = nI 48 := e
    rw [rb_yeq (by omega) (by omega)] at e'
    omega
  · have g := rb_yput40 (post := post) (x2 := x2) (x := x) (E1 := E1) (E2 := E2) hl hcy hp E2.length ks vs (Nat.le_refl _) (fun j e he => ⟨fun _ => hg j e he, fun h => by
      have h3 := (List.getElem?_eq_some_iff.mp he).1
      simp only [List.length_append] at h3
      omega⟩)
    have ee : (E1 ++ E2).length = E1.length + E2.length := List.length_append
    rw [← ee] at g
    exact g
theorem rb_yrem28 {post : Int32 → SY → Prop} {cy : Nat} (hl : (E1 ++ E2).length < 48) (hcy : cy ≤ (E1 ++ E2).length + 1) (hp : ∀ ks' vs', rb_ag (E1 ++ E2) ks' vs' → post 1 (nI (E1 ++ E2).length, nI (if cy ≤ E1.length then cy else cy - 1), ks', vs')) : ∀ d i ks vs, i + d = (E1 ++ E2).length → (∀ j e, (E1 ++ E2)[j]? = some e → (j < i → ks j = e.1 ∧ vs j = e.2) ∧ (i ≤ j → ks (j + 1) = e.1 ∧ vs (j + 1) = e.2)) → wY_remove_28 post (nI E1.length) (nI (E1 ++ E2).length) (nI cy) (d + 1) (nI i) ks vs := by
  have hl' := hl
  simp only [List.length_append] at hl'
  intro d
  induction d with
  | zero =>
    intro i ks vs hi hg
    have hag : rb_ag (E1 ++ E2) ks vs := fun j e he => (hg j e he).1 (by have := (List.getElem?_eq_some_iff.mp he).1; omega)
    refine br_t (by rw [rb_yle (by omega) (by omega)]; omega) (br_c (fun e => ?_) (fun e => ?_))
    · rw [rb_yle (by omega) (by omega)] at e
      have := hp ks vs hag
      rw [if_pos e] at this; exact this
    · rw [rb_yle (by omega) (by omega)] at e
      have := hp ks vs hag
      rw [if_neg e] at this
      obtain ⟨c, rfl⟩ : ∃ c, cy = c + 1 := ⟨cy - 1, by omega⟩
      exact nm_r (nI_pred c) this
  | succ d ih =>
    intro i ks vs hi hg
    refine br_f (by rw [rb_yle (by omega) (by omega)]; omega) ?_
    rw [nI_1, rb_yc (by omega), rb_yc (by omega)]
    refine ⟨rb_y48 (by omega), rb_y48 (by omega), nm_e ⟨rb_y48 (by omega), rb_y48 (by omega), nm_e (nm_e (ih (i + 1) _ _ (by omega) ?_))⟩⟩
    intro j e he
    refine ⟨fun h => ?_, fun h => ?_⟩
    · by_cases hj : j = i
      · subst hj
        rw [rb_us, rb_us]
        exact (hg _ e he).2 (by omega)
      · rw [rb_un hj, rb_un hj]
        exact (hg j e he).1 (by omega)
    · rw [rb_un (by omega), rb_un (by omega)]
      exact (hg j e he).2 (by omega)
theorem rb_yrem_t {post : Int32 → SY → Prop} {y : Int32} {cy : Nat} (hl : (E1 ++ (x, y) :: E2).length ≤ 48) (hcy : cy ≤ (E1 ++ (x, y) :: E2).length) (hg : rb_ag (E1 ++ (x, y) :: E2) ks vs) (h1 : ∀ e, e ∈ E1 → e.1 < x) (h2 : ∀ e, e ∈ E2 → x < e.1) (hp : ∀ ks' vs', rb_ag (E1 ++ E2) ks' vs' → post 1 (nI (E1 ++ E2).length, nI (if cy ≤ E1.length then cy else cy - 1), ks', vs')) : wpY_remove post (nI (E1 ++ (x, y) :: E2).length, nI cy, ks, vs) x := by
  have ee : (E1 ++ (x, y) :: E2).length = (E1 ++ E2).length + 1 := by simp; omega
  have hl2 : (E1 ++ E2).length < 48 := by omega
  unfold wpY_remove
  dsimp only
  refine rb_yholds_t hl hg h1 h2 (br_f rb_01' (rb_ybelow hl hg h1 (rb_le_cons h2) (nm_r (e' := nI (E1 ++ E2).length) (by rw [ee]; exact nI_pred _) ⟨E2.length + 1, ?_⟩)))
  refine rb_yrem28 (post := post) (E1 := E1) (E2 := E2) hl2 (by omega) hp E2.length E1.length ks vs (by simp) ?_
  intro j e he
  refine ⟨fun h => hg j e ?_, fun h => hg (j + 1) e ?_⟩
  · rw [List.getElem?_append_left h] at he ⊢; exact he
  · obtain ⟨d, rfl⟩ : ∃ d, j = E1.length + d := ⟨j - E1.length, by omega⟩
    rw [List.getElem?_append_right (by omega), Nat.add_sub_cancel_left] at he
    rw [List.getElem?_append_right (by omega), Nat.add_assoc, Nat.add_sub_cancel_left]
    exact he
theorem rb_yrem_f {post : Int32 → SY → Prop} (hl : (E1 ++ E2).length ≤ 48) (hg : rb_ag (E1 ++ E2) ks vs) (h1 : ∀ e, e ∈ E1 → e.1 < x) (h2 : ∀ e, e ∈ E2 → x < e.1) (hp : post 0 (nI (E1 ++ E2).length, C, ks, vs)) : wpY_remove post (nI (E1 ++ E2).length, C, ks, vs) x := by
  unfold wpY_remove
  dsimp only
  exact rb_yholds_f hl hg h1 h2 (br_t rfl hp)
end
end
section
/-! the reference: count, sum, removeAll -/
def rb_cn (lo hi : Int32) : List (Int32 × Int32) → Nat
  | [] => 0
  | e :: Q => (if lo ≤ e.1 ∧ e.1 ≤ hi then 1 else 0) + rb_cn lo hi Q
def rb_cx (x : Int32) : List (Int32 × Int32) → Nat
  | [] => 0
  | e :: Q => (if e.1 < x then 1 else 0) + rb_cx x Q
def rb_ce (x : Int32) : List (Int32 × Int32) → Nat
  | [] => 0
  | e :: Q => (if e.1 = x then 1 else 0) + rb_ce x Q
def rb_sn (lo hi : Int32) : List (Int32 × Int32) → Int64
  | [] => 0
  | e :: Q => (if lo ≤ e.1 ∧ e.1 ≤ hi then e.2.toInt64 else 0) + rb_sn lo hi Q
def rb_sx (x : Int32) : List (Int32 × Int32) → Int64
  | [] => 0
  | e :: Q => (if e.1 < x then e.2.toInt64 else 0) + rb_sx x Q
def rb_se (x : Int32) : List (Int32 × Int32) → Int64
  | [] => 0
  | e :: Q => (if e.1 = x then e.2.toInt64 else 0) + rb_se x Q
theorem rb_tri {lo hi x : Int32} (h : lo ≤ hi) : (x < lo ∧ ¬ (lo ≤ x ∧ x ≤ hi) ∧ x < hi ∧ ¬ x = hi) ∨ (x = hi ∧ ¬ x < lo ∧ (lo ≤ x ∧ x ≤ hi) ∧ ¬ x < hi) ∨ (¬ x < lo ∧ (lo ≤ x ∧ x ≤ hi) ∧ x < hi ∧ ¬ x = hi) ∨ (¬ x < lo ∧ ¬ (lo ≤ x ∧ x ≤ hi) ∧ ¬ x < hi ∧ ¬ x = hi) := by
  rw [← Int32.toInt_inj]
  simp only [Int32.lt_iff_toInt_lt, Int32.le_iff_toInt_le] at h ⊢
  omega
theorem rb_c_sum {lo hi : Int32} (h : lo ≤ hi) : ∀ E, rb_cn lo hi E + rb_cx lo E = rb_cx hi E + rb_ce hi E
  | [] => rfl
  | e :: Q => by
    have ih := rb_c_sum h Q
    rw [rb_cn, rb_cx, rb_cx, rb_ce]
    rcases rb_tri (x := e.1) h with ⟨a1, a2, a3, a4⟩ | ⟨a1, a2, a3, a4⟩ | ⟨a1, a2, a3, a4⟩ | ⟨a1, a2, a3, a4⟩
    · rw [if_neg a2, if_pos a1, if_pos a3, if_neg a4]; omega
    · rw [if_pos a3, if_neg a2, if_neg a4, if_pos a1]; omega
    · rw [if_pos a2, if_neg a1, if_pos a3, if_neg a4]; omega
    · rw [if_neg a2, if_neg a1, if_neg a3, if_neg a4]; omega
theorem rb_s_sum {lo hi : Int32} (h : lo ≤ hi) : ∀ E, rb_sn lo hi E + rb_sx lo E = rb_sx hi E + rb_se hi E
  | [] => rfl
  | e :: Q => by
    have ih := rb_s_sum h Q
    rw [rb_sn, rb_sx, rb_sx, rb_se]
    rcases rb_tri (x := e.1) h with ⟨a1, a2, a3, a4⟩ | ⟨a1, a2, a3, a4⟩ | ⟨a1, a2, a3, a4⟩ | ⟨a1, a2, a3, a4⟩
    · rw [if_neg a2, if_pos a1, if_pos a3, if_neg a4]; grind
    · rw [if_pos a3, if_neg a2, if_neg a4, if_pos a1]; grind
    · rw [if_pos a2, if_neg a1, if_pos a3, if_neg a4]; grind
    · rw [if_neg a2, if_neg a1, if_neg a3, if_neg a4]; grind
theorem rb_cn_0 {lo hi : Int32} (h : ¬ lo ≤ hi) : ∀ E, rb_cn lo hi E = 0
  | [] => rfl
  | e :: Q => by
    have a : ¬ (lo ≤ e.1 ∧ e.1 ≤ hi) := fun g => h (Int32.le_trans g.1 g.2)
    rw [rb_cn, if_neg a, rb_cn_0 h Q]
theorem rb_sn_0 {lo hi : Int32} (h : ¬ lo ≤ hi) : ∀ E, rb_sn lo hi E = 0
  | [] => rfl
  | e :: Q => by
    have a : ¬ (lo ≤ e.1 ∧ e.1 ≤ hi) := fun g => h (Int32.le_trans g.1 g.2)
    rw [rb_sn, if_neg a, rb_sn_0 h Q]; rfl
theorem rb_cx_split {x : Int32} : ∀ E1 E2 : List (Int32 × Int32), (∀ e, e ∈ E1 → e.1 < x) → (∀ e, e ∈ E2 → x ≤ e.1) → rb_cx x (E1 ++ E2) = E1.length
  | [], [], _, _ => rfl
  | [], e :: E2, h1, h2 => by
    have h3 := h2 e List.mem_cons_self
    rw [List.nil_append, rb_cx, if_neg (Int32.not_lt.mpr h3)]
    have := rb_cx_split [] E2 h1 (fun e he => h2 e (List.mem_cons_of_mem _ he))
    rw [List.nil_append] at this
    rw [this]; rfl
  | e :: E1, E2, h1, h2 => by
    rw [List.cons_append, rb_cx, if_pos (h1 e List.mem_cons_self), rb_cx_split E1 E2 (fun e he => h1 e (List.mem_cons_of_mem _ he)) h2, List.length_cons]; omega
def rb_es : List (Int32 × Int32) → Int64
  | [] => 0
  | e :: Q => e.2.toInt64 + rb_es Q
theorem rb_sx_split {x : Int32} : ∀ E1 E2 : List (Int32 × Int32), (∀ e, e ∈ E1 → e.1 < x) → (∀ e, e ∈ E2 → x ≤ e.1) → rb_sx x (E1 ++ E2) = rb_es E1
  | [], [], _, _ => rfl
  | [], e :: E2, h1, h2 => by
    have h3 := h2 e List.mem_cons_self
    rw [List.nil_append, rb_sx, if_neg (Int32.not_lt.mpr h3)]
    have := rb_sx_split [] E2 h1 (fun e he => h2 e (List.mem_cons_of_mem _ he))
    rw [List.nil_append] at this
    rw [this]; rfl
  | e :: E1, E2, h1, h2 => by
    rw [List.cons_append, rb_sx, if_pos (h1 e List.mem_cons_self), rb_sx_split E1 E2 (fun e he => h1 e (List.mem_cons_of_mem _ he)) h2]; rfl
theorem rb_e_0 {x : Int32} : ∀ E : List (Int32 × Int32), (∀ e, e ∈ E → ¬ e.1 = x) → rb_ce x E = 0 ∧ rb_se x E = 0
  | [], _ => ⟨rfl, rfl⟩
  | e :: E, h => by
    have h1 := h e List.mem_cons_self
    have h2 := rb_e_0 E (fun e he => h e (List.mem_cons_of_mem _ he))
    rw [rb_ce, rb_se, if_neg h1, if_neg h1, h2.1, h2.2]; exact ⟨rfl, rfl⟩
theorem rb_e_1 {x y : Int32} : ∀ E1 E2 : List (Int32 × Int32), (∀ e, e ∈ E1 → e.1 < x) → (∀ e, e ∈ E2 → x < e.1) → rb_ce x (E1 ++ (x, y) :: E2) = 1 ∧ rb_se x (E1 ++ (x, y) :: E2) = y.toInt64
  | [], E2, _, h2 => by
    have h3 := rb_e_0 (x := x) E2 (fun e he => (Int32.ne_of_lt (h2 e he)).symm)
    rw [List.nil_append, rb_ce, rb_se, if_pos rfl, if_pos rfl, h3.1, h3.2, Int64.add_zero]
    exact ⟨rfl, rfl⟩
  | e :: E1, E2, h1, h2 => by
    have h3 := Int32.ne_of_lt (h1 e List.mem_cons_self)
    have h4 := rb_e_1 (y := y) E1 E2 (fun e he => h1 e (List.mem_cons_of_mem _ he)) h2
    rw [List.cons_append, rb_ce, rb_se, if_neg h3, if_neg h3, h4.1, h4.2, Int64.zero_add]
    exact ⟨rfl, rfl⟩
section
variable {C lo hi : Int32}
theorem rb_yc5 {post : Int32 → Prop} {ks vs : rb_A} : ∀ (Q P : List (Int32 × Int32)) (acc : Nat), (P ++ Q).length ≤ 48 → rb_ag (P ++ Q) ks vs → post (nI (acc + rb_cn lo hi Q)) → wY_count_5 post lo hi (nI (P ++ Q).length) C ks vs (Q.length + 1) (nI acc) (nI P.length)
  | [], P, acc, hl, hg, hp => by
    have hl' := hl
    simp only [List.length_append] at hl'
    exact br_t (by rw [rb_yle hl (by omega)]; simp) hp
  | e :: Q, P, acc, hl, hg, hp => by
    have hl' := hl
    simp only [List.length_append, List.length_cons] at hl'
    have ea : P ++ e :: Q = (P ++ [e]) ++ Q := by simp
    have el : (P ++ [e]).length = P.length + 1 := by simp
    have go : ∀ acc', post (nI (acc' + rb_cn lo hi Q)) → wY_count_5 post lo hi (nI (P ++ e :: Q).length) C ks vs (Q.length + 1) (nI acc') (nI (P.length + 1)) := by
      intro acc' h
      rw [ea] at hl hg ⊢
      have h3 := rb_yc5 Q (P ++ [e]) acc' hl hg h
      rw [el] at h3
      exact h3
    refine br_f (by rw [rb_yle hl (by omega)]; simp) ⟨rb_y48 (by omega), ?_⟩
    rw [rb_yc (by omega), (hg _ _ rb_mid).1]
    rw [rb_cn] at hp
    refine br_c (fun g => nm_r (nI_1 _) (go acc ?_)) (fun g => ⟨rb_y48 (by omega), br_c (fun g2 => nm_r (nI_1 _) (go acc ?_)) (fun g2 => nm_r (nI_1 acc) (nm_r (nI_1 _) (go (acc + 1) ?_)))⟩)
    · rw [if_neg (fun h => Int32.not_lt.mpr h.1 g), Nat.zero_add] at hp; exact hp
    · rw [if_neg (fun h => Int32.not_lt.mpr h.2 g2), Nat.zero_add] at hp; exact hp
    · rw [if_pos ⟨Int32.not_lt.mp g, Int32.not_lt.mp g2⟩, ← Nat.add_assoc] at hp; exact hp
theorem rb_ycount {post : Int32 → Prop} {ks vs : rb_A} {E : List (Int32 × Int32)} (hl : E.length ≤ 48) (hg : rb_ag E ks vs) (hp : post (nI (rb_cn lo hi E))) : wpY_count post (nI E.length, C, ks, vs) lo hi := by
  unfold wpY_count
  dsimp only
  refine ⟨E.length + 1, ?_⟩
  exact rb_yc5 (C := C) (ks := ks) (vs := vs) E [] 0 hl hg (by rw [Nat.zero_add]; exact hp)
theorem rb_ys5 {post : Int64 → Prop} {ks vs : rb_A} : ∀ (Q P : List (Int32 × Int32)) (acc : Int64), (P ++ Q).length ≤ 48 → rb_ag (P ++ Q) ks vs → post (acc + rb_sn lo hi Q) → wY_sum_5 post lo hi (nI (P ++ Q).length) C ks vs (Q.length + 1) acc (nI P.length)
  | [], P, acc, hl, hg, hp => by
    have hl' := hl
    simp only [List.length_append] at hl'
    rw [rb_sn, Int64.add_zero] at hp
    exact br_t (by rw [rb_yle hl (by omega)]; simp) hp
  | e :: Q, P, acc, hl, hg, hp => by
    have hl' := hl
    simp only [List.length_append, List.length_cons] at hl'
    have ea : P ++ e :: Q = (P ++ [e]) ++ Q := by simp
    have el : (P ++ [e]).length = P.length + 1 := by simp
    have go : ∀ acc', post (acc' + rb_sn lo hi Q) → wY_sum_5 post lo hi (nI (P ++ e :: Q).length) C ks vs (Q.length + 1) acc' (nI (P.length + 1)) := by
      intro acc' h
      rw [ea] at hl hg ⊢
      have h3 := rb_ys5 Q (P ++ [e]) acc' hl hg h
      rw [el] at h3
      exact h3
    refine br_f (by rw [rb_yle hl (by omega)]; simp) ⟨rb_y48 (by omega), ?_⟩
    rw [rb_yc (by omega), (hg _ _ rb_mid).1, (hg _ _ rb_mid).2]
    rw [rb_sn] at hp
    refine br_c (fun g => nm_r (nI_1 _) (go acc ?_)) (fun g => ⟨rb_y48 (by omega), br_c (fun g2 => nm_r (nI_1 _) (go acc ?_)) (fun g2 => ⟨rb_y48 (by omega), nm_e (nm_r (nI_1 _) (go (acc + e.2.toInt64) ?_))⟩)⟩)
    · rw [if_neg (fun h => Int32.not_lt.mpr h.1 g), Int64.zero_add] at hp; exact hp
    · rw [if_neg (fun h => Int32.not_lt.mpr h.2 g2), Int64.zero_add] at hp; exact hp
    · rw [if_pos ⟨Int32.not_lt.mp g, Int32.not_lt.mp g2⟩, ← Int64.add_assoc] at hp; exact hp
theorem rb_ysum {post : Int64 → Prop} {ks vs : rb_A} {E : List (Int32 × Int32)} (hl : E.length ≤ 48) (hg : rb_ag E ks vs) (hp : post (rb_sn lo hi E)) : wpY_sum post (nI E.length, C, ks, vs) lo hi := by
  unfold wpY_sum
  dsimp only
  refine ⟨E.length + 1, ?_⟩
  exact rb_ys5 (C := C) (ks := ks) (vs := vs) E [] 0 hl hg (by rw [Int64.zero_add]; exact hp)
theorem rb_m1 (n : Nat) : nI n + (-1) = nI n - 1 := (Int32.sub_eq_add_neg _ _).symm
/-- entries out of the range are passed over -/
theorem rb_yskip {post : Int32 → SY → Prop} {ks vs : rb_A} {E : List (Int32 × Int32)} {acc : Int32} {f p : Nat} (hl : E.length ≤ 48) (hg : rb_ag E ks vs) (hk : wY_removeAll_10 post lo hi f acc (nI p - 1) (nI E.length) C ks vs) : ∀ d, p + d ≤ E.length → (∀ j e, p ≤ j → j < p + d → E[j]? = some e → e.1 < lo ∨ hi < e.1) → wY_removeAll_10 post lo hi (f + d) acc (nI (p + d) - 1) (nI E.length) C ks vs := by
  intro d
  induction d with
  | zero => intro _ _; exact hk
  | succ d ih =>
    intro hd ho
    have e1 : nI (p + (d + 1)) - 1 = nI (p + d) := nI_pred _
    rw [e1]
    obtain ⟨e, he⟩ : ∃ e, E[p + d]? = some e := ⟨E[p + d]'(by omega), List.getElem?_eq_getElem (by omega)⟩
    have go := ih (by omega) (fun j e h1 h2 h3 => ho j e h1 (by omega) h3)
    refine br_f (nI_pos (by omega)) ⟨rb_y48 (by omega), ?_⟩
    rw [rb_yc (by omega), (hg _ e he).1]
    refine br_c (fun g => nm_r (rb_m1 _) go) (fun g => ⟨rb_y48 (by omega), br_c (fun g2 => nm_r (rb_m1 _) go) (fun g2 => ?_)⟩)
    rcases ho (p + d) e (by omega) (by omega) he with h | h
    · exact absurd h g
    · exact absurd h g2
/-- where the cursor goes when m entries from place p on are taken out -/
def rb_cf (p m cy : Nat) : Nat := if cy ≤ p then cy else if cy ≤ p + m then p else cy - m
theorem rb_cf_0 (p cy : Nat) : rb_cf p 0 cy = cy := by
  unfold rb_cf
  split
  · rfl
  · split <;> omega
theorem rb_cf_b (p d cy : Nat) : rb_cf p d (if cy ≤ p + d then cy else cy - 1) = rb_cf p (d + 1) cy := by
  unfold rb_cf
  by_cases h1 : cy ≤ p <;> by_cases h2 : cy ≤ p + d <;> by_cases h3 : cy ≤ p + (d + 1) <;> by_cases h4 : cy - 1 ≤ p <;> by_cases h5 : cy - 1 ≤ p + d <;> simp only [h1, h2, h3, h4, h5, if_true, if_false] <;> omega
theorem rb_cf_f (p d cy : Nat) : rb_cf p d (if cy ≤ p then cy else cy - 1) = rb_cf p (d + 1) cy := by
  unfold rb_cf
  by_cases h1 : cy ≤ p <;> by_cases h2 : cy ≤ p + d <;> by_cases h3 : cy ≤ p + (d + 1) <;> by_cases h4 : cy - 1 ≤ p <;> by_cases h5 : cy - 1 ≤ p + d <;> simp only [h1, h2, h3, h4, h5, if_true, if_false] <;> omega
theorem rb_snocE (G : List (Int32 × Int32)) : G = [] ∨ ∃ G' g, G = G' ++ [g] := by
  rcases List.eq_nil_or_concat G with h | ⟨G', g, h⟩
  · exact Or.inl h
  · exact Or.inr ⟨G', g, by rw [h, List.concat_eq_append]⟩
theorem rb_yrm {post : Int32 → SY → Prop} {E1 E3 : List (Int32 × Int32)} {f : Nat} : ∀ (d : Nat) (M : List (Int32 × Int32)) (acc cy : Nat) (ks vs : rb_A), M.length = d → (E1 ++ (M ++ E3)).length ≤ 48 → cy ≤ (E1 ++ (M ++ E3)).length → (E1 ++ (M ++ E3)).Pairwise (fun a b => a.1 < b.1) → rb_ag (E1 ++ (M ++ E3)) ks vs → (∀ e, e ∈ M → lo ≤ e.1 ∧ e.1 ≤ hi) → (∀ ks' vs', rb_ag (E1 ++ E3) ks' vs' → wY_removeAll_10 post lo hi f (nI (acc + d)) (nI E1.length - 1) (nI (E1 ++ E3).length) (nI (rb_cf E1.length d cy)) ks' vs') → wY_removeAll_10 post lo hi (f + d) (nI acc) (nI (E1.length + d) - 1) (nI (E1 ++ (M ++ E3)).length) (nI cy) ks vs := by
  intro d
  induction d with
  | zero =>
    intro M acc cy ks vs hM hl hcy hs hg hr hp
    obtain rfl : M = [] := List.length_eq_zero_iff.mp hM
    have h := hp ks vs hg
    rw [rb_cf_0] at h
    exact h
  | succ d ih =>
    intro M acc cy ks vs hM hl hcy hs hg hr hp
    rcases rb_snocE M with rfl | ⟨M', e, rfl⟩
    · simp at hM
    have hM' : M'.length = d := by simp at hM; exact hM
    obtain ⟨ek, ev⟩ := e
    have ea : E1 ++ ((M' ++ [(ek, ev)]) ++ E3) = (E1 ++ M') ++ (ek, ev) :: E3 := by simp
    have ea2 : E1 ++ (M' ++ E3) = (E1 ++ M') ++ E3 := by simp
    rw [ea] at hl hcy hs hg ⊢
    have hl' := hl
    simp only [List.length_append, List.length_cons] at hl'
    obtain ⟨s1, s2, s3⟩ := List.pairwise_append.mp hs
    obtain ⟨s4, s5⟩ := List.pairwise_cons.mp s2
    have hre := hr (ek, ev) (by simp)
    have e1 : nI (E1.length + (d + 1)) - 1 = nI (E1.length + d) := nI_pred _
    rw [e1]
    have hel : E1.length + d = (E1 ++ M').length := by simp; omega
    have hag := hg (E1.length + d) (ek, ev) (by rw [hel]; exact rb_mid)
    refine br_f (nI_pos (by omega)) ⟨rb_y48 (by omega), ?_⟩
    rw [rb_yc (by omega), hag.1]
    refine br_f (Int32.not_lt.mpr hre.1) ⟨rb_y48 (by omega), br_f (Int32.not_lt.mpr hre.2) ⟨rb_y48 (by omega), ?_⟩⟩
    refine rb_yrem_t (E1 := E1 ++ M') (E2 := E3) hl hcy hg (fun e he => s3 e he (ek, ev) List.mem_cons_self) (fun e he => s4 e he) ?_
    intro ks' vs' hg'
    dsimp only
    refine nm_r (nI_1 acc) (nm_r (rb_m1 _) ?_)
    rw [← ea2] at hg' ⊢
    rw [← hel]
    have hl2 : (E1 ++ (M' ++ E3)).length = (E1 ++ M' ++ (ek, ev) :: E3).length - 1 := by simp; omega
    refine ih M' (acc + 1) _ ks' vs' hM' (by omega) ?_ ?_ hg' (fun e he => hr e (by simp [he])) ?_
    · rw [hl2]
      simp only [List.length_append, List.length_cons] at hcy ⊢
      split <;> omega
    · rw [ea2]
      exact List.Pairwise.sublist (List.Sublist.append (List.Sublist.refl _) (List.sublist_cons_self _ _)) hs
    · intro ks'' vs'' hg''
      have h := hp ks'' vs'' hg''
      rw [rb_cf_b]
      have e3 : acc + 1 + d = acc + (d + 1) := by omega
      rw [e3]; exact h
theorem rb_yremAll {post : Int32 → SY → Prop} {ks vs : rb_A} {E1 M E3 : List (Int32 × Int32)} {cy : Nat} (hl : (E1 ++ (M ++ E3)).length ≤ 48) (hcy : cy ≤ (E1 ++ (M ++ E3)).length) (hs : (E1 ++ (M ++ E3)).Pairwise (fun a b => a.1 < b.1)) (hg : rb_ag (E1 ++ (M ++ E3)) ks vs) (h1 : ∀ e, e ∈ E1 → e.1 < lo) (h2 : ∀ e, e ∈ M → lo ≤ e.1 ∧ e.1 ≤ hi) (h3 : ∀ e, e ∈ E3 → hi < e.1) (hp : ∀ ks' vs', rb_ag (E1 ++ E3) ks' vs' → post (nI M.length) (nI (E1 ++ E3).length, nI (rb_cf E1.length M.length cy), ks', vs')) : wpY_removeAll post (nI (E1 ++ (M ++ E3)).length, nI cy, ks, vs) lo hi := by
  have hl' := hl
  simp only [List.length_append] at hl'
  unfold wpY_removeAll
  dsimp only
  refine nm_e ⟨((1 + E1.length) + M.length) + E3.length, ?_⟩
  have ee : (E1 ++ (M ++ E3)).length = (E1.length + M.length) + E3.length := by simp; omega
  have h0 : wY_removeAll_10 post lo hi ((1 + E1.length) + M.length + E3.length) (nI 0) (nI ((E1.length + M.length) + E3.length) - 1) (nI (E1 ++ (M ++ E3)).length) (nI cy) ks vs := by
    refine rb_yskip hl hg ?_ E3.length (by omega) ?_
    · refine rb_yrm M.length M 0 cy ks vs rfl hl hcy hs hg h2 ?_
      intro ks' vs' hg'
      have h4 : wY_removeAll_10 post lo hi (1 + E1.length) (nI (0 + M.length)) (nI (0 + E1.length) - 1) (nI (E1 ++ E3).length) (nI (rb_cf E1.length M.length cy)) ks' vs' := by
        refine rb_yskip (by simp only [List.length_append]; omega) hg' ?_ E1.length (by simp) ?_
        · rw [Nat.zero_add]
          exact br_t (by decide) (hp ks' vs' hg')
        · intro j e _ h6 he
          rw [Nat.zero_add] at h6
          rw [List.getElem?_append_left h6] at he
          exact Or.inl (h1 e (List.mem_of_getElem? he))
      rw [Nat.zero_add E1.length] at h4
      exact h4
    · intro j e h5 h6 he
      refine Or.inr (h3 e ?_)
      rw [← List.append_assoc, List.getElem?_append_right (by simp; omega)] at he
      exact List.mem_of_getElem? he
  rw [← ee] at h0
  exact h0
end
end
section
/-! the class's readers over the list of nodes; lists of entries -/
def rb_E (k v : rb_A) (L : List Nat) : List (Int32 × Int32) := L.map (fun n => (k n, v n))
theorem rb_E_app {k v : rb_A} {X Y : List Nat} : rb_E k v (X ++ Y) = rb_E k v X ++ rb_E k v Y := List.map_append
theorem rb_E_cons {k v : rb_A} {n : Nat} {Y : List Nat} : rb_E k v (n :: Y) = (k n, v n) :: rb_E k v Y := rfl
theorem rb_E_len {k v : rb_A} {L : List Nat} : (rb_E k v L).length = L.length := List.length_map _
theorem rb_E_all {k v : rb_A} {L : List Nat} {P : Int32 → Prop} (h : ∀ j, j ∈ L → P (k j)) : ∀ e, e ∈ rb_E k v L → P e.1 := by
  intro e he
  obtain ⟨n, hn, rfl⟩ := List.mem_map.mp he
  exact h n hn
theorem rb_E_fr {k v k' v' : rb_A} {L : List Nat} (h : ∀ j, j ∈ L → k' j = k j ∧ v' j = v j) : rb_E k' v' L = rb_E k v L :=
  List.map_congr_left (fun j hj => by rw [(h j hj).1, (h j hj).2])
theorem rb_E_es {k v : rb_A} : ∀ L : List Nat, rb_es (rb_E k v L) = rb_sm v L
  | [] => rfl
  | n :: L => by rw [rb_E_cons, rb_es, rb_E_es L]; rfl
theorem rb_E_pw {k v : rb_A} {L : List Nat} (h : L.Pairwise (fun i j => k i < k j)) : (rb_E k v L).Pairwise (fun a b => a.1 < b.1) := List.pairwise_map.mpr h
theorem rb_spu {k : rb_A} {x : Int32} : ∀ {L1 L2 A1 A2 : List Nat}, L1 ++ L2 = A1 ++ A2 → (∀ j, j ∈ L1 → k j < x) → (∀ j, j ∈ L2 → x ≤ k j) → (∀ j, j ∈ A1 → k j < x) → (∀ j, j ∈ A2 → x ≤ k j) → L1 = A1 ∧ L2 = A2
  | [], L2, [], A2, e, _, _, _, _ => ⟨rfl, e⟩
  | [], L2, m :: A1, A2, e, _, h2, h3, _ => by
    have e' : L2 = m :: (A1 ++ A2) := e
    have g := h2 m (by rw [e']; exact List.mem_cons_self)
    exact absurd (h3 m List.mem_cons_self) (Int32.not_lt.mpr g)
  | m :: L1, L2, [], A2, e, h1, _, _, h4 => by
    have e' : m :: (L1 ++ L2) = A2 := e
    have g := h4 m (by rw [← e']; exact List.mem_cons_self)
    exact absurd (h1 m List.mem_cons_self) (Int32.not_lt.mpr g)
  | m :: L1, L2, m' :: A1, A2, e, h1, h2, h3, h4 => by
    have e1 := List.cons.inj e
    obtain ⟨g1, g2⟩ := rb_spu e1.2 (fun j hj => h1 j (List.mem_cons_of_mem _ hj)) h2 (fun j hj => h3 j (List.mem_cons_of_mem _ hj)) h4
    exact ⟨by rw [e1.1, g1], g2⟩
theorem rb_split {k : rb_A} {p : Int32 → Prop} (hm : ∀ a b : Int32, a < b → p b → p a) : ∀ L : List Nat, L.Pairwise (fun i j => k i < k j) → ∃ A B, L = A ++ B ∧ (∀ j, j ∈ A → p (k j)) ∧ (∀ j, j ∈ B → ¬ p (k j))
  | [], _ => ⟨[], [], rfl, (by intro j hj; cases hj), (by intro j hj; cases hj)⟩
  | n :: L, h => by
    obtain ⟨h1, h2⟩ := List.pairwise_cons.mp h
    obtain ⟨A, B, e, a1, a2⟩ := rb_split hm L h2
    by_cases hp : p (k n)
    · refine ⟨n :: A, B, by rw [e]; rfl, ?_, a2⟩
      intro j hj
      rcases List.mem_cons.mp hj with rfl | hj
      · exact hp
      · exact a1 j hj
    · refine ⟨[], n :: L, rfl, (by intro j hj; cases hj), ?_⟩
      intro j hj
      rcases List.mem_cons.mp hj with rfl | hj
      · exact hp
      · exact fun g => hp (hm _ _ (h1 j hj) g)
theorem rb_mids {k : rb_A} {L1 L2 : List Nat} {n : Nat} (h : (L1 ++ n :: L2).Pairwise (fun i j => k i < k j)) : (∀ j, j ∈ L1 → k j < k n) ∧ (∀ j, j ∈ L2 → k n < k j) := by
  obtain ⟨s1, s2, s3⟩ := List.pairwise_append.mp h
  exact ⟨fun j hj => s3 j hj n List.mem_cons_self, (List.pairwise_cons.mp s2).1⟩
theorem rb_curRm {L1 L2 : List Nat} {n cy : Nat} (hO : rb_O (L1 ++ n :: L2)) : (if nI (((L1 ++ n :: L2)[cy]?).getD 0) = nI n then nI (L2.headD 0) else nI (((L1 ++ n :: L2)[cy]?).getD 0)) = nI (((L1 ++ L2)[if cy ≤ L1.length then cy else cy - 1]?).getD 0) := by
  have hn := hO.2 n (by simp)
  obtain ⟨d1, d2, d3⟩ := List.nodup_append.mp hO.1
  obtain ⟨d4, d5⟩ := List.nodup_cons.mp d2
  rcases Nat.lt_trichotomy cy L1.length with h | h | h
  · rw [if_pos (show cy ≤ L1.length by omega), List.getElem?_append_left h, List.getElem?_append_left h, List.getElem?_eq_getElem h, Option.getD_some]
    have hm := List.getElem_mem h
    have hr := hO.2 _ (List.mem_append.mpr (Or.inl hm))
    rw [if_neg]
    rw [rb_eqn hr.2 hn.2]
    exact d3 _ hm n List.mem_cons_self
  · subst h
    rw [rb_mid, Option.getD_some, if_pos rfl, if_pos (Nat.le_refl _), List.getElem?_append_right (Nat.le_refl _), Nat.sub_self]
    cases L2 <;> rfl
  · obtain ⟨d, rfl⟩ : ∃ d, cy = L1.length + (d + 1) := ⟨cy - L1.length - 1, by omega⟩
    have e1 : (L1 ++ n :: L2)[L1.length + (d + 1)]? = L2[d]? := by
      rw [List.getElem?_append_right (by omega), Nat.add_sub_cancel_left]; rfl
    have e2 : (L1 ++ L2)[L1.length + (d + 1) - 1]? = L2[d]? := by
      rw [List.getElem?_append_right (by omega)]
      exact congrArg (fun i => L2[i]?) (by omega)
    rw [if_neg (show ¬ L1.length + (d + 1) ≤ L1.length by omega), e1, e2, if_neg]
    rcases Nat.lt_or_ge d L2.length with h' | h'
    · rw [List.getElem?_eq_getElem h', Option.getD_some]
      have hm := List.getElem_mem h'
      have hr := hO.2 _ (List.mem_append.mpr (Or.inr (List.mem_cons_of_mem n hm)))
      rw [rb_eqn hr.2 hn.2]
      exact fun e => d4 (e ▸ hm)
    · rw [List.getElem?_eq_none h', Option.getD_none, rb_eqn (by omega) hn.2]
      omega
theorem rb_curIn {L1 L2 : List Nat} {n cy : Nat} : ((L1 ++ L2)[cy]?).getD 0 = ((L1 ++ n :: L2)[if cy < L1.length then cy else cy + 1]?).getD 0 := by
  by_cases h : cy < L1.length
  · rw [if_pos h, List.getElem?_append_left h, List.getElem?_append_left h]
  · rw [if_neg h]
    obtain ⟨d, rfl⟩ : ∃ d, cy = L1.length + d := ⟨cy - L1.length, by omega⟩
    rw [List.getElem?_append_right (by omega), List.getElem?_append_right (by omega), Nat.add_sub_cancel_left, Nat.add_assoc, Nat.add_sub_cancel_left]
    rfl
section
variable {R fr cu : Int32} {l r a q k v z : rb_A} {w : rb_W} {L : List Nat}
theorem rb_I_f (hI : rb_I R fr l r a q k v z w L) : L.Pairwise (fun i j => k i < k j) ∧ rb_O L ∧ L.length ≤ 48 ∧ v 0 = 0 := by
  obtain ⟨T, F, H, eT, hO, hl, hF, hG, hZ, hB, hr, q0, z0, w0, v0, hs⟩ := hI
  exact ⟨hs, rb_O_r hO, by omega, v0⟩
theorem rb_Xfind {post : Int32 → Prop} {x : Int32} (hI : rb_I R fr l r a q k v z w L) (h1 : ∀ L1 m L2, L = L1 ++ m :: L2 → k m = x → post (nI m)) (h0 : (∀ j, j ∈ L → k j ≠ x) → post 0) : wpX_find post (R, fr, cu, l, r, a, q, k, v, z, w) x := by
  obtain ⟨T, F, H, eT, hO, hl, hF, hG, hZ, hB, hr, q0, z0, w0, v0, hs⟩ := hI
  unfold wpX_find
  dsimp only
  rw [hG.2]
  subst eT
  exact ⟨60, rb_find7 T 0 60 0 hG.1 (rb_O_r hO).2 hs (by omega) (by omega) h1 h0⟩
theorem rb_Xbelow {post : Int32 → Prop} {x : Int32} (hI : rb_I R fr l r a q k v z w L) (h1 : ∀ L1 L2, L = L1 ++ L2 → (∀ j, j ∈ L1 → k j < x) → (∀ j, j ∈ L2 → x ≤ k j) → post (nI L1.length)) : wpX_below post (R, fr, cu, l, r, a, q, k, v, z, w) x := by
  obtain ⟨T, F, H, eT, hO, hl, hF, hG, hZ, hB, hr, q0, z0, w0, v0, hs⟩ := hI
  unfold wpX_below
  dsimp only
  rw [hG.2]
  subst eT
  exact ⟨60, rb_below10 T 0 60 0 0 hG.1 hZ z0 w0 (rb_O_r hO).2 hs (by omega) (by omega) (fun L1 L2 e1 e2 e3 => by rw [Nat.zero_add]; exact h1 L1 L2 e1 e2 e3)⟩
theorem rb_XsumB {post : Int64 → Prop} {x : Int32} (hI : rb_I R fr l r a q k v z w L) (h1 : ∀ L1 L2, L = L1 ++ L2 → (∀ j, j ∈ L1 → k j < x) → (∀ j, j ∈ L2 → x ≤ k j) → post (rb_sm v L1)) : wpX_sumBelow post (R, fr, cu, l, r, a, q, k, v, z, w) x := by
  obtain ⟨T, F, H, eT, hO, hl, hF, hG, hZ, hB, hr, q0, z0, w0, v0, hs⟩ := hI
  unfold wpX_sumBelow
  dsimp only
  rw [hG.2]
  subst eT
  exact ⟨60, rb_sumBelow11 T 0 60 0 0 hG.1 hZ z0 w0 (rb_O_r hO).2 hs (by omega) (by omega) (fun L1 L2 e1 e2 e3 => by rw [Int64.zero_add]; exact h1 L1 L2 e1 e2 e3)⟩
theorem rb_Xceil {post : Int32 → Prop} {x : Int32} (hI : rb_I R fr l r a q k v z w L) (h1 : ∀ L1 L2, L = L1 ++ L2 → (∀ j, j ∈ L1 → k j < x) → (∀ j, j ∈ L2 → x ≤ k j) → post (nI (L2.headD 0))) : wpX_ceiling post (R, fr, cu, l, r, a, q, k, v, z, w) x := by
  obtain ⟨T, F, H, eT, hO, hl, hF, hG, hZ, hB, hr, q0, z0, w0, v0, hs⟩ := hI
  unfold wpX_ceiling
  dsimp only
  rw [hG.2]
  subst eT
  exact ⟨60, rb_ceil10 T 0 60 0 0 hG.1 (rb_O_r hO).2 hs (by omega) (by omega) h1⟩
theorem rb_XnodeAt {post : Int32 → Prop} {y : Nat} (hy : y < 2 ^ 31) (hI : rb_I R fr l r a q k v z w L) (h1 : post (nI ((L[y]?).getD 0))) : wpX_nodeAt post (R, fr, cu, l, r, a, q, k, v, z, w) (nI y) := by
  obtain ⟨T, F, H, eT, hO, hl, hF, hG, hZ, hB, hr, q0, z0, w0, v0, hs⟩ := hI
  unfold wpX_nodeAt
  dsimp only
  rw [hG.2]
  subst eT
  exact ⟨60, rb_nodeAt10 T 0 60 0 y hG.1 hZ z0 w0 (rb_O_r hO).2 hy (by omega) (by omega) h1⟩
theorem rb_XnodeAt0 {post : Int32 → Prop} {x : Int32} (hI : rb_I R fr l r a q k v z w []) (h1 : post 0) : wpX_nodeAt post (R, fr, cu, l, r, a, q, k, v, z, w) x := by
  obtain ⟨T, F, H, eT, hO, hl, hF, hG, hZ, hB, hr, q0, z0, w0, v0, hs⟩ := hI
  unfold wpX_nodeAt
  dsimp only
  have e := rb_ids_nil eT
  subst e
  rw [hG.2]
  exact ⟨1, br_c (fun _ => h1) (fun _ => br_t rb_z0 h1)⟩
theorem rb_Xroot (hI : rb_I R fr l r a q k v z w L) : vp_in R 49 ∧ z R.toNatClampNeg = nI L.length := by
  obtain ⟨T, F, H, eT, hO, hl, hF, hG, hZ, hB, hr, q0, z0, w0, v0, hs⟩ := hI
  have rT : rb_rt T < 49 := rb_rt_lt (by rw [eT]; exact (rb_O_r hO).2)
  rw [hG.2, rb_clm rT, (rb_Z_rt T z0 w0 hZ).1, eT]
  exact ⟨rb_vi rT, rfl⟩
theorem rb_Xnb {L1 L2 : List Nat} {n : Nat} (hI : rb_I R fr l r a q k v z w (L1 ++ n :: L2)) : ∃ c A B, rb_O (rb_ids (rb_in A n B) ++ rb_ci c) ∧ (rb_ids (rb_in A n B) ++ rb_ci c).length ≤ 48 ∧ rb_L l r a (rb_in A n B) (rb_top c) ∧ rb_C R l r a c n ∧ L1 = rb_cl c ++ rb_ids A ∧ L2 = rb_ids B ++ rb_cr c := by
  obtain ⟨T, F, H, eT, hO, hl, hF, hG, hZ, hB, hr, q0, z0, w0, v0, hs⟩ := hI
  obtain ⟨c, A, B, rfl⟩ := rb_zip n T (by rw [eT]; simp)
  have eI := rb_ids_pl c (rb_in A n B)
  rw [rb_ids_in] at eI
  have hOT := rb_O_r hO
  have hd := hOT.1
  have e1 : L1 ++ n :: L2 = (rb_cl c ++ rb_ids A) ++ n :: (rb_ids B ++ rb_cr c) := by rw [← eT, eI]; simp
  have hn1 : n ∉ L1 := fun e => (List.nodup_append.mp hd).2.2 n e n (by simp) rfl
  have hn2 : n ∉ rb_cl c ++ rb_ids A := by
    rw [e1] at hd
    exact fun e => (List.nodup_append.mp hd).2.2 n e n (by simp) rfl
  obtain ⟨eL1, eL2⟩ := rb_uniq hn1 hn2 e1
  rw [← eT] at hl hOT
  obtain ⟨hL, hC⟩ := (rb_G_pl c _).mp hG
  exact ⟨c, A, B, rb_O_pl.mp hOT, by rw [← (rb_perm c (rb_in A n B)).length_eq]; omega, hL, hC, eL1, eL2⟩
theorem rb_Xbehind {post : Int32 → Prop} {L1 L2 : List Nat} {n : Nat} (hI : rb_I R fr l r a q k v z w (L1 ++ n :: L2)) (h1 : post (nI (L2.headD 0))) : wpX_nodeBehind post (R, fr, cu, l, r, a, q, k, v, z, w) (nI n) := by
  obtain ⟨c, A, B, g1, g2, g3, g4, g5, g6⟩ := rb_Xnb hI
  rw [g6] at h1
  exact rb_behind g1 g2 g3 g4 h1
theorem rb_Xbefore {post : Int32 → Prop} {L1 L2 : List Nat} {n : Nat} (hI : rb_I R fr l r a q k v z w (L1 ++ n :: L2)) (h1 : post (nI (L1.getLastD 0))) : wpX_nodeBefore post (R, fr, cu, l, r, a, q, k, v, z, w) (nI n) := by
  obtain ⟨c, A, B, g1, g2, g3, g4, g5, g6⟩ := rb_Xnb hI
  rw [g5] at h1
  exact rb_before g1 g2 g3 g4 h1
end
theorem rb_xra {post : Int32 → SX → Prop} {lo hi : Int32} {k v : rb_A} {L1 L3 : List Nat} (h1 : ∀ j, j ∈ L1 → k j < lo) (h3 : ∀ j, j ∈ L3 → lo ≤ k j ∧ hi < k j) : ∀ (LM : List Nat) (f i acc cy : Nat) (R fr : Int32) (l r a q z : rb_A) (w : rb_W), LM.length < f → i + LM.length ≤ 48 → rb_I R fr l r a q k v z w (L1 ++ (LM ++ L3)) → (∀ j, j ∈ LM → lo ≤ k j ∧ k j ≤ hi) → (∀ R' fr' l' r' a' q' z' w', rb_I R' fr' l' r' a' q' k v z' w' (L1 ++ L3) → post (nI (acc + LM.length)) (R', fr', nI (((L1 ++ L3)[rb_cf L1.length LM.length cy]?).getD 0), l', r', a', q', k, v, z', w')) → wX_removeAll_5 post lo hi f (nI acc) (nI i) R fr (nI (((L1 ++ (LM ++ L3))[cy]?).getD 0)) l r a q k v z w
  | [], f, i, acc, cy, R, fr, l, r, a, q, z, w, hf, hi', hI, h2, hp => by
    obtain ⟨f, rfl⟩ : ∃ g, f = g + 1 := ⟨f - 1, by omega⟩
    have fin := hp R fr l r a q z w hI
    rw [List.length_nil, rb_cf_0] at fin
    refine br_c (fun _ => fin) (fun _ => ?_)
    refine rb_Xceil hI ?_
    intro A1 A2 e1 e2 e3
    obtain ⟨g1, g2⟩ := rb_spu e1 h1 (fun j hj => (h3 j hj).1) e2 e3
    subst g2
    have hO := (rb_I_f hI).2.1
    cases L3 with
    | nil => exact br_t rfl fin
    | cons m L3 =>
      have hm := hO.2 m (by simp)
      have eh : (([] : List Nat) ++ m :: L3).headD 0 = m := rfl
      rw [eh]
      refine br_f (by rw [rb_eq0 hm.2]; omega) ⟨rb_vi hm.2, ?_⟩
      rw [rb_clm hm.2]
      exact br_f (Int32.not_le.mpr (h3 m List.mem_cons_self).2) fin
  | m :: LM, f, i, acc, cy, R, fr, l, r, a, q, z, w, hf, hi', hI, h2, hp => by
    obtain ⟨f, rfl⟩ : ∃ g, f = g + 1 := ⟨f - 1, by omega⟩
    simp only [List.length_cons] at hf hi'
    have hO := (rb_I_f hI).2.1
    have hm := hO.2 m (by simp)
    refine br_f (by rw [rb_48 (by omega)]; omega) (rb_Xceil hI ?_)
    intro A1 A2 e1 e2 e3
    have hlo : ∀ j, j ∈ m :: LM ++ L3 → lo ≤ k j := by
      intro j hj
      rcases List.mem_append.mp hj with hj | hj
      · exact (h2 j hj).1
      · exact (h3 j hj).1
    obtain ⟨g1, g2⟩ := rb_spu e1 h1 hlo e2 e3
    subst g2
    have eh : (m :: LM ++ L3).headD 0 = m := rfl
    rw [eh]
    refine br_f (by rw [rb_eq0 hm.2]; omega) ⟨rb_vi hm.2, ?_⟩
    rw [rb_clm hm.2]
    refine br_t (h2 m List.mem_cons_self).2 ?_
    have hI2 : rb_I R fr l r a q k v z w (L1 ++ m :: (LM ++ L3)) := hI
    refine rb_removeNode hI2 ?_
    intro R' fr' l' r' a' q' z' w' hI'
    dsimp only
    have ec : (if nI (((L1 ++ (m :: LM ++ L3))[cy]?).getD 0) = nI m then nI ((LM ++ L3).headD 0) else nI (((L1 ++ (m :: LM ++ L3))[cy]?).getD 0)) = nI (((L1 ++ (LM ++ L3))[if cy ≤ L1.length then cy else cy - 1]?).getD 0) := rb_curRm (n := m) (L1 := L1) (L2 := LM ++ L3) hO
    rw [ec]
    refine nm_r (nI_1 acc) (nm_r (nI_1 i) ?_)
    refine rb_xra h1 h3 LM f (i + 1) (acc + 1) _ R' fr' l' r' a' q' z' w' (by omega) (by omega) hI' (fun j hj => h2 j (List.mem_cons_of_mem _ hj)) ?_
    intro R'' fr'' l'' r'' a'' q'' z'' w'' hI''
    have h := hp R'' fr'' l'' r'' a'' q'' z'' w'' hI''
    rw [rb_cf_f]
    have e3 : acc + 1 + LM.length = acc + (m :: LM).length := by simp; omega
    rw [e3]; exact h
end
section
/-! the relation, the constructors, and small lemmas for the methods -/
/-- both hold the same sorted entries, the class as a tree with the nodes L from left to right; cy: the cursor's place -/
def i_Rel (_ : Nat) (u : SX) (v : SY) : Prop :=
  ∃ (R fr : Int32) (l r a q k vv z : rb_A) (w : rb_W) (L : List Nat) (cy : Nat) (ks vs : rb_A), u = (R, fr, nI ((L[cy]?).getD 0), l, r, a, q, k, vv, z, w) ∧ v = (nI (rb_E k vv L).length, nI cy, ks, vs) ∧ rb_I R fr l r a q k vv z w L ∧ cy ≤ L.length ∧ rb_ag (rb_E k vv L) ks vs
theorem i_up {k : Nat} {u : SX} {v : SY} (h : i_Rel k u v) : i_Rel (k + 3) u v := h
theorem rb_mk {K : Nat} {R fr cu : Int32} {l r a q k vv z ks vs : rb_A} {w : rb_W} {L : List Nat} {cy N : Nat} (hI : rb_I R fr l r a q k vv z w L) (hcy : cy ≤ L.length) (hg : rb_ag (rb_E k vv L) ks vs) (hc : cu = nI ((L[cy]?).getD 0)) (hN : N = (rb_E k vv L).length) : i_Rel K (R, fr, cu, l, r, a, q, k, vv, z, w) (nI N, nI cy, ks, vs) := by
  subst hc hN
  exact ⟨R, fr, l, r, a, q, k, vv, z, w, L, cy, ks, vs, rfl, rfl, hI, hcy, hg⟩
theorem rb_F0 {a : rb_A} (h : ∀ j, 1 ≤ j → j < 49 → a j = if j = 48 then 0 else nI (j + 1)) : ∀ d i, 1 ≤ i → i + d = 49 → rb_F a (List.range' i d) (if d = 0 then 0 else nI i)
  | 0, i, _, _ => rfl
  | d + 1, i, h1, h2 => by
    refine ⟨if_neg (by omega), ?_⟩
    have g := rb_F0 h d (i + 1) (by omega) (by omega)
    rw [h i h1 (by omega)]
    by_cases hd : d = 0
    · subst hd
      rw [if_pos (show i = 48 by omega)]; exact rfl
    · rw [if_neg hd] at g
      rw [if_neg (show ¬ i = 48 by omega)]; exact g
theorem rb_init70 {post : SX → Prop} {f0 : Int32} {l r q k v z : rb_A} {w : rb_W} (hp : ∀ a : rb_A, (∀ j, 1 ≤ j → j < 49 → a j = if j = 48 then 0 else nI (j + 1)) → post (0, 1, 0, l, r, a, q, k, v, z, w)) : ∀ d i (a : rb_A), i + d = 49 → (∀ j, 1 ≤ j → j < i → a j = if j = 48 then 0 else nI (j + 1)) → wX_init_70 post 0 f0 0 (d + 1) (nI i) l r a q k v z w := by
  intro d
  induction d with
  | zero =>
    intro i a hi ha
    obtain rfl : i = 49 := by omega
    exact br_t (Int32.le_refl _) (hp a ha)
  | succ d ih =>
    intro i a hi ha
    have e49 : ¬ (49 : Int32) ≤ nI i := nI_ge (b := 49) (by omega) (by decide)
    have e48 : nI i = 48 ↔ i = 48 := rb_eqn (n := 48) (by omega) (by omega)
    refine br_f e49 (br_c (fun e => ⟨rb_vi (by omega), ?_⟩) (fun e => ⟨rb_vi (by omega), ?_⟩))
    · rw [e48] at e
      rw [rb_clm (show i < 49 by omega)]
      refine nm_e (nm_r (nI_1 i) (ih (i + 1) _ (by omega) ?_))
      intro j j1 j2
      by_cases hj : j = i
      · subst hj; rw [rb_us, if_pos e]
      · rw [rb_un hj]; exact ha j j1 (by omega)
    · rw [e48] at e
      rw [rb_clm (show i < 49 by omega), nI_1 i]
      refine nm_e (nm_e (ih (i + 1) _ (by omega) ?_))
      intro j j1 j2
      by_cases hj : j = i
      · subst hj; rw [rb_us, if_neg e]
      · rw [rb_un hj]; exact ha j j1 (by omega)
theorem i_vc0 : wpX_init (fun u => wpY_init (fun v => i_Rel 0 u v)) := by
  unfold wpX_init
  refine ⟨49, rb_init70 (f0 := 0) ?_ 48 1 _ (by omega) (fun j j1 j2 => by omega)⟩
  intro a ha
  unfold wpY_init
  refine rb_mk (L := []) (cy := 0) (N := 0) ?_ (Nat.le_refl _) ?_ rfl rfl
  · refine ⟨rb_lf, List.range' 1 48, 0, rfl, ?_, by simp, rb_F0 ha 48 1 (by omega) (by omega), ⟨True.intro, rfl⟩, True.intro, rfl, rfl, rfl, rfl, rfl, rfl, List.Pairwise.nil⟩
    rw [List.append_nil]
    refine ⟨List.nodup_range', fun j hj => ?_⟩
    rw [List.mem_range'_1] at hj
    omega
  · intro i e he
    simp [rb_E] at he
theorem rb_sp {k : rb_A} {L : List Nat} (x : Int32) (hs : L.Pairwise (fun i j => k i < k j)) : ∃ A B, L = A ++ B ∧ (∀ j, j ∈ A → k j < x) ∧ (∀ j, j ∈ B → x ≤ k j) := by
  obtain ⟨A, B, e, a1, a2⟩ := rb_split (k := k) (p := fun y => y < x) (fun a b h1 h2 => Int32.lt_trans h1 h2) L hs
  exact ⟨A, B, e, a1, fun j hj => Int32.not_lt.mp (a2 j hj)⟩
theorem rb_nf {k : rb_A} {L : List Nat} {x : Int32} (hs : L.Pairwise (fun i j => k i < k j)) (hn : ∀ j, j ∈ L → k j ≠ x) : ∃ A B, L = A ++ B ∧ (∀ j, j ∈ A → k j < x) ∧ (∀ j, j ∈ B → x < k j) := by
  obtain ⟨A, B, e, a1, a2⟩ := rb_sp x hs
  refine ⟨A, B, e, a1, fun j hj => Int32.lt_of_le_of_ne (a2 j hj) ?_⟩
  exact fun h => hn j (by rw [e]; exact List.mem_append.mpr (Or.inr hj)) h.symm
theorem rb_cur {L : List Nat} {cy : Nat} (h : cy ≤ L.length) : (cy = L.length ∧ (L[cy]?).getD 0 = 0) ∨ ∃ L1 n L2, L = L1 ++ n :: L2 ∧ L1.length = cy ∧ (L[cy]?).getD 0 = n := by
  rcases Nat.lt_or_ge cy L.length with h' | h'
  · refine Or.inr ⟨L.take cy, L[cy], L.drop (cy + 1), ?_, ?_, ?_⟩
    · rw [← List.drop_eq_getElem_cons h', List.take_append_drop]
    · rw [List.length_take]; omega
    · rw [List.getElem?_eq_getElem h', Option.getD_some]
  · refine Or.inl ⟨by omega, ?_⟩
    rw [List.getElem?_eq_none h', Option.getD_none]
theorem rb_E_set {k v : rb_A} {L1 L2 : List Nat} {n : Nat} {x : Int32} (hd : (L1 ++ n :: L2).Nodup) : rb_E k (upd v n x) (L1 ++ n :: L2) = rb_E k v L1 ++ (k n, x) :: rb_E k v L2 := by
  obtain ⟨d1, d2, d3⟩ := List.nodup_append.mp hd
  obtain ⟨d4, d5⟩ := List.nodup_cons.mp d2
  have d6 : ∀ j, j ∈ L2 → j ≠ n := fun j hj e => d4 (e ▸ hj)
  rw [rb_E_app, rb_E_cons, rb_us, rb_E_fr (L := L1) (k := k) (v := v) (fun j hj => ⟨rfl, rb_un (d3 j hj n List.mem_cons_self)⟩), rb_E_fr (L := L2) (k := k) (v := v) (fun j hj => ⟨rfl, rb_un (d6 j hj)⟩)]
theorem rb_E_new {k v : rb_A} {L1 L2 : List Nat} {n : Nat} {x y : Int32} (hn : n ∉ L1 ++ L2) : rb_E (upd k n x) (upd v n y) (L1 ++ n :: L2) = rb_E k v L1 ++ (x, y) :: rb_E k v L2 := by
  have h1 : ∀ j, j ∈ L1 → j ≠ n := fun j hj e => hn (e ▸ List.mem_append.mpr (Or.inl hj))
  have h2 : ∀ j, j ∈ L2 → j ≠ n := fun j hj e => hn (e ▸ List.mem_append.mpr (Or.inr hj))
  rw [rb_E_app, rb_E_cons, rb_us, rb_us, rb_E_fr (L := L1) (k := k) (v := v) (fun j hj => ⟨rb_un (h1 j hj), rb_un (h1 j hj)⟩), rb_E_fr (L := L2) (k := k) (v := v) (fun j hj => ⟨rb_un (h2 j hj), rb_un (h2 j hj)⟩)]
theorem rb_E_at {k v : rb_A} {L1 L2 : List Nat} {n : Nat} {x : Int32} (e : k n = x) : rb_E k v (L1 ++ n :: L2) = rb_E k v L1 ++ (x, v n) :: rb_E k v L2 := by
  rw [rb_E_app, rb_E_cons, e]
theorem rb_E_lt {k v : rb_A} {L : List Nat} {x : Int32} (h : ∀ j, j ∈ L → k j < x) : ∀ e, e ∈ rb_E k v L → e.1 < x := rb_E_all (P := fun y => y < x) h
theorem rb_E_gt {k v : rb_A} {L : List Nat} {x : Int32} (h : ∀ j, j ∈ L → x < k j) : ∀ e, e ∈ rb_E k v L → x < e.1 := rb_E_all (P := fun y => x < y) h
theorem rb_E_ge {k v : rb_A} {L : List Nat} {x : Int32} (h : ∀ j, j ∈ L → x ≤ k j) : ∀ e, e ∈ rb_E k v L → x ≤ e.1 := rb_E_all (P := fun y => x ≤ y) h
end
section
/-! the owed ones: methods that read -/
theorem i_vc_get {k : Nat} {u : SX} {v : SY} (I : i_Rel k u v) (hk : k + 3 ≤ 1536) (v1 : Int32) : wpX_get (fun r => wpY_get (fun r' => r' = r ∧ i_Rel (k + 3) u v) v v1) u v1 := by
  have I2 := i_up I
  obtain ⟨R, fr, l, r, a, q, kk, vv, z, w, L, cy, ks, vs, rfl, rfl, hI, hcy, hg⟩ := I
  obtain ⟨hs, hO, hl, v0⟩ := rb_I_f hI
  have hlE : (rb_E kk vv L).length ≤ 48 := by rw [rb_E_len]; exact hl
  unfold wpX_get
  dsimp only
  refine rb_Xfind hI ?_ ?_
  · intro L1 m L2 eL em
    subst eL
    have hm := hO.2 m (by simp)
    obtain ⟨s1, s2⟩ := rb_mids hs
    rw [em] at s1 s2
    refine br_f (by rw [rb_eq0 hm.2]; omega) ⟨rb_vi hm.2, ?_⟩
    rw [rb_clm hm.2]
    rw [rb_E_at em] at hg hlE I2 ⊢
    exact rb_yget_t hlE hg (rb_E_lt s1) (rb_E_gt s2) ⟨rfl, I2⟩
  · intro hn
    obtain ⟨A, B, eL, a1, a2⟩ := rb_nf hs hn
    subst eL
    refine br_t rfl ?_
    rw [rb_E_app] at hg hlE I2 ⊢
    exact rb_yget_f hlE hg (rb_E_lt a1) (rb_E_gt a2) ⟨rfl, I2⟩
theorem i_vc_place {k : Nat} {u : SX} {v : SY} (I : i_Rel k u v) (hk : k + 3 ≤ 1536) (v1 : Int32) : wpX_place (fun r => wpY_place (fun r' => r' = r ∧ i_Rel (k + 3) u v) v v1) u v1 := by
  have I2 := i_up I
  obtain ⟨R, fr, l, r, a, q, kk, vv, z, w, L, cy, ks, vs, rfl, rfl, hI, hcy, hg⟩ := I
  obtain ⟨hs, hO, hl, v0⟩ := rb_I_f hI
  have hlE : (rb_E kk vv L).length ≤ 48 := by rw [rb_E_len]; exact hl
  unfold wpX_place
  dsimp only
  refine rb_Xfind hI ?_ ?_
  · intro L1 m L2 eL em
    subst eL
    have hm := hO.2 m (by simp)
    obtain ⟨s1, s2⟩ := rb_mids hs
    rw [em] at s1 s2
    refine br_f (by rw [rb_eq0 hm.2]; omega) (rb_Xbelow hI ?_)
    intro A1 A2 e1 a1 a2
    obtain ⟨g1, g2⟩ := rb_spu e1 s1 (fun j hj => by
      rcases List.mem_cons.mp hj with rfl | hj
      · exact Int32.le_of_eq em.symm
      · exact Int32.le_of_lt (s2 j hj)) a1 a2
    rw [← g1]
    rw [rb_E_at em] at hg hlE I2 ⊢
    exact rb_yplace_t hlE hg (rb_E_lt s1) (rb_E_gt s2) ⟨by rw [rb_E_len], I2⟩
  · intro hn
    obtain ⟨A, B, eL, a1, a2⟩ := rb_nf hs hn
    subst eL
    refine br_t rfl ?_
    rw [rb_E_app] at hg hlE I2 ⊢
    exact rb_yplace_f hlE hg (rb_E_lt a1) (rb_E_gt a2) ⟨rfl, I2⟩
theorem i_vc_count {k : Nat} {u : SX} {v : SY} (I : i_Rel k u v) (hk : k + 3 ≤ 1536) (v1 : Int32) (v2 : Int32) : wpX_count (fun r => wpY_count (fun r' => r' = r ∧ i_Rel (k + 3) u v) v v1 v2) u v1 v2 := by
  have I2 := i_up I
  obtain ⟨R, fr, l, r, a, q, kk, vv, z, w, L, cy, ks, vs, rfl, rfl, hI, hcy, hg⟩ := I
  obtain ⟨hs, hO, hl, v0⟩ := rb_I_f hI
  have hlE : (rb_E kk vv L).length ≤ 48 := by rw [rb_E_len]; exact hl
  have cx : ∀ (x : Int32) (A1 A2 : List Nat), L = A1 ++ A2 → (∀ j, j ∈ A1 → kk j < x) → (∀ j, j ∈ A2 → x ≤ kk j) → rb_cx x (rb_E kk vv L) = A1.length := by
    intro x A1 A2 e a1 a2
    rw [e, rb_E_app, rb_cx_split _ _ (rb_E_lt a1) (rb_E_ge a2), rb_E_len]
  unfold wpX_count
  dsimp only
  refine br_c (fun hle => ?_) (fun hle => ?_)
  · refine rb_Xbelow hI ?_
    intro A1 A2 e1 a1 a2
    have cA := cx v2 A1 A2 e1 a1 a2
    have cs := rb_c_sum hle (rb_E kk vv L)
    refine rb_Xfind hI ?_ ?_
    · intro B1 m B2 e2 em
      have hm := hO.2 m (by rw [e2]; simp)
      have hs' := hs
      rw [e2] at hs'
      obtain ⟨s1, s2⟩ := rb_mids hs'
      rw [em] at s1 s2
      have c1 : rb_ce v2 (rb_E kk vv L) = 1 := by
        rw [e2, rb_E_at em]; exact (rb_e_1 _ _ (rb_E_lt s1) (rb_E_gt s2)).1
      refine br_f (by rw [rb_le0 hm.2]; omega) ?_
      unfold wX_count_25
      refine nm_r (nI_1 _) (rb_Xbelow hI ?_)
      intro C1 C2 e3 d1 d2
      have cC := cx v1 C1 C2 e3 d1 d2
      refine rb_ycount hlE hg ⟨?_, I2⟩
      have e4 : A1.length + 1 = rb_cn v1 v2 (rb_E kk vv L) + C1.length := by omega
      rw [e4, ← nI_add, Int32.add_sub_cancel]
    · intro hn
      have c1 : rb_ce v2 (rb_E kk vv L) = 0 := (rb_e_0 _ (rb_E_all (P := fun y => ¬ y = v2) hn)).1
      refine br_t (Int32.le_refl _) ?_
      unfold wX_count_25
      refine nm_r (e' := nI A1.length) (nI_add _ 0) (rb_Xbelow hI ?_)
      intro C1 C2 e3 d1 d2
      have cC := cx v1 C1 C2 e3 d1 d2
      refine rb_ycount hlE hg ⟨?_, I2⟩
      have e4 : A1.length = rb_cn v1 v2 (rb_E kk vv L) + C1.length := by omega
      rw [e4, ← nI_add, Int32.add_sub_cancel]
  · refine rb_ycount hlE hg ⟨?_, I2⟩
    rw [rb_cn_0 hle]; rfl
theorem i_vc_sum {k : Nat} {u : SX} {v : SY} (I : i_Rel k u v) (hk : k + 3 ≤ 1536) (v1 : Int32) (v2 : Int32) : wpX_sum (fun r => wpY_sum (fun r' => r' = r ∧ i_Rel (k + 3) u v) v v1 v2) u v1 v2 := by
  have I2 := i_up I
  obtain ⟨R, fr, l, r, a, q, kk, vv, z, w, L, cy, ks, vs, rfl, rfl, hI, hcy, hg⟩ := I
  obtain ⟨hs, hO, hl, v0⟩ := rb_I_f hI
  have hlE : (rb_E kk vv L).length ≤ 48 := by rw [rb_E_len]; exact hl
  have cx : ∀ (x : Int32) (A1 A2 : List Nat), L = A1 ++ A2 → (∀ j, j ∈ A1 → kk j < x) → (∀ j, j ∈ A2 → x ≤ kk j) → rb_sx x (rb_E kk vv L) = rb_sm vv A1 := by
    intro x A1 A2 e a1 a2
    rw [e, rb_E_app, rb_sx_split _ _ (rb_E_lt a1) (rb_E_ge a2), rb_E_es]
  unfold wpX_sum
  dsimp only
  refine br_c (fun hle => ?_) (fun hle => ?_)
  · have cs := rb_s_sum hle (rb_E kk vv L)
    have main : ∀ m : Nat, m < 49 → rb_se v2 (rb_E kk vv L) = (vv m).toInt64 → wpX_sumBelow (fun r_14 => (vp_in (nI m) 49 ∧ (wpX_sumBelow (fun r_27 => (wpY_sum (fun r' => r' = ((r_14 + ((vv (nI m).toNatClampNeg).toInt64)) - r_27) ∧ i_Rel (k + 3) (R, fr, nI ((L[cy]?).getD 0), l, r, a, q, kk, vv, z, w) (nI (rb_E kk vv L).length, nI cy, ks, vs)) (nI (rb_E kk vv L).length, nI cy, ks, vs) v1 v2)) (R, fr, nI ((L[cy]?).getD 0), l, r, a, q, kk, vv, z, w) v1))) (R, fr, nI ((L[cy]?).getD 0), l, r, a, q, kk, vv, z, w) v2 := by
      intro m hm hse
      refine rb_XsumB hI ?_
      intro A1 A2 e1 a1 a2
      have cA := cx v2 A1 A2 e1 a1 a2
      rw [rb_clm hm]
      refine ⟨rb_vi hm, rb_XsumB hI ?_⟩
      intro C1 C2 e3 d1 d2
      have cC := cx v1 C1 C2 e3 d1 d2
      refine rb_ysum hlE hg ⟨?_, I2⟩
      rw [← cA, ← cC, ← hse, ← cs]; grind
    refine rb_Xfind hI ?_ ?_
    · intro B1 m B2 e2 em
      have hm := hO.2 m (by rw [e2]; simp)
      have hs' := hs
      rw [e2] at hs'
      obtain ⟨s1, s2⟩ := rb_mids hs'
      rw [em] at s1 s2
      refine main m hm.2 ?_
      rw [e2, rb_E_at em]; exact (rb_e_1 _ _ (rb_E_lt s1) (rb_E_gt s2)).2
    · intro hn
      refine main 0 (by omega) ?_
      rw [(rb_e_0 _ (rb_E_all (P := fun y => ¬ y = v2) hn)).2, v0]; rfl
  · refine rb_ysum hlE hg ⟨?_, I2⟩
    rw [rb_sn_0 hle]
theorem i_vc_seek {k : Nat} {u : SX} {v : SY} (I : i_Rel k u v) (hk : k + 3 ≤ 1536) (v1 : Int32) : wpX_seek (fun r u' => wpY_seek (fun r' v' => r' = r ∧ i_Rel (k + 3) u' v') v v1) u v1 := by
  obtain ⟨R, fr, l, r, a, q, kk, vv, z, w, L, cy, ks, vs, rfl, rfl, hI, hcy, hg⟩ := I
  obtain ⟨hs, hO, hl, v0⟩ := rb_I_f hI
  have hlE : (rb_E kk vv L).length ≤ 48 := by rw [rb_E_len]; exact hl
  unfold wpX_seek
  dsimp only
  refine rb_Xceil hI ?_
  intro A1 A2 e1 a1 a2
  refine rb_Xbelow hI ?_
  intro B1 B2 e2 b1 b2
  obtain ⟨g1, g2⟩ := rb_spu (e1.symm.trans e2) a1 a2 b1 b2
  subst g1 g2
  unfold wpY_seek
  dsimp only
  have hE : rb_E kk vv L = rb_E kk vv A1 ++ rb_E kk vv A2 := by rw [e1, rb_E_app]
  have hg2 := hg
  rw [hE] at hg hlE ⊢
  refine rb_ybelow hlE hg (rb_E_lt a1) (rb_E_ge a2) ⟨by rw [rb_E_len], ?_⟩
  rw [rb_E_len]
  refine rb_mk hI (by rw [e1]; simp) hg2 ?_ (by rw [hE])
  rw [e1, List.getElem?_append_right (Nat.le_refl _), Nat.sub_self]
  cases A2 <;> rfl
theorem i_vc_key {k : Nat} {u : SX} {v : SY} (I : i_Rel k u v) (hk : k + 3 ≤ 1536) : wpX_key (fun r => wpY_key (fun r' => r' = r ∧ i_Rel (k + 3) u v) v) u := by
  have I2 := i_up I
  obtain ⟨R, fr, l, r, a, q, kk, vv, z, w, L, cy, ks, vs, rfl, rfl, hI, hcy, hg⟩ := I
  obtain ⟨hs, hO, hl, v0⟩ := rb_I_f hI
  have hlE : (rb_E kk vv L).length ≤ 48 := by rw [rb_E_len]; exact hl
  unfold wpX_key wpY_key
  dsimp only
  rcases rb_cur hcy with ⟨h1, h2⟩ | ⟨L1, n, L2, eL, h1, h2⟩
  · refine br_t (by rw [h2]; rfl) (br_t ?_ ⟨rfl, I2⟩)
    rw [rb_yle hlE (by omega), rb_E_len]; omega
  · have hn := hO.2 n (by rw [eL]; simp)
    rw [h2] at I2 ⊢
    refine br_f (by rw [rb_eq0 hn.2]; omega) ⟨rb_vi hn.2, ?_⟩
    have hcl : cy < L.length := by rw [eL, ← h1]; simp
    rw [rb_clm hn.2, rb_yc (by omega)]
    refine br_f (by rw [rb_yle hlE (by omega), rb_E_len]; omega) ⟨rb_y48 (by omega), ?_, I2⟩
    exact (hg cy (kk n, vv n) (by rw [eL, rb_E_app, rb_E_cons, ← h1, ← rb_E_len (k := kk) (v := vv) (L := L1)]; exact rb_mid)).1
theorem rb_yjump_t {post : Int32 → SY → Prop} {N y : Nat} {C : Int32} {ks vs : rb_A} (hN : N ≤ 48) (h : y < N) (hp : post 1 (nI N, nI y, ks, vs)) : wpY_jump post (nI N, C, ks, vs) (nI y) := by
  unfold wpY_jump
  dsimp only
  exact br_f (nI_pos (by omega)) (br_f (by rw [rb_yle hN (by omega)]; omega) (br_f (by decide) (br_f (by decide) hp)))
theorem rb_yjump_f {post : Int32 → SY → Prop} {N C x : Int32} {ks vs : rb_A} (h : x < 0 ∨ N ≤ x) (hp : post 0 (N, N, ks, vs)) : wpY_jump post (N, C, ks, vs) x := by
  unfold wpY_jump
  dsimp only
  have g : wY_jump_16 post x N C ks vs := br_t rfl (br_t rfl hp)
  rcases h with h | h
  · exact br_t h g
  · exact br_c (fun _ => g) (fun _ => br_t h g)
theorem i_vc_jump {k : Nat} {u : SX} {v : SY} (I : i_Rel k u v) (hk : k + 3 ≤ 1536) (v1 : Int32) : wpX_jump (fun r u' => wpY_jump (fun r' v' => r' = r ∧ i_Rel (k + 3) u' v') v v1) u v1 := by
  obtain ⟨R, fr, l, r, a, q, kk, vv, z, w, L, cy, ks, vs, rfl, rfl, hI, hcy, hg⟩ := I
  obtain ⟨hs, hO, hl, v0⟩ := rb_I_f hI
  have hlE : (rb_E kk vv L).length ≤ 48 := by rw [rb_E_len]; exact hl
  have eEnd : ((L[(rb_E kk vv L).length]?).getD 0) = 0 := by rw [rb_E_len, List.getElem?_eq_none (Nat.le_refl _)]; rfl
  unfold wpX_jump
  dsimp only
  refine br_c (fun h => ?_) (fun h => ?_)
  · obtain ⟨y, hy, rfl⟩ := nI_of (x := v1) (Int32.not_lt.mpr h)
    refine rb_XnodeAt hy hI ?_
    unfold wX_jump_14
    rcases Nat.lt_or_ge y L.length with h' | h'
    · rw [List.getElem?_eq_getElem h', Option.getD_some]
      have hn := hO.2 _ (List.getElem_mem h')
      refine br_f (by rw [rb_le0 hn.2]; omega) (rb_yjump_t hlE (by rw [rb_E_len]; exact h') ⟨rfl, ?_⟩)
      refine rb_mk hI (by omega) hg ?_ rfl
      rw [List.getElem?_eq_getElem h', Option.getD_some]
    · rw [List.getElem?_eq_none h', Option.getD_none]
      refine br_t rb_z0 (rb_yjump_f (Or.inr ?_) ⟨rfl, ?_⟩)
      · rw [nI_leI (by omega) hy, rb_E_len]; exact h'
      · exact rb_mk hI (by rw [rb_E_len]; exact Nat.le_refl _) hg (by rw [eEnd]) rfl
  · unfold wX_jump_14
    refine br_t (Int32.le_refl _) (rb_yjump_f (Or.inl (Int32.not_le.mp h)) ⟨rfl, ?_⟩)
    exact rb_mk hI (by rw [rb_E_len]; exact Nat.le_refl _) hg (by rw [eEnd]; rfl) rfl
theorem i_vc_next {k : Nat} {u : SX} {v : SY} (I : i_Rel k u v) (hk : k + 3 ≤ 1536) : wpX_next (fun r u' => wpY_next (fun r' v' => r' = r ∧ i_Rel (k + 3) u' v') v) u := by
  have I2 := i_up I
  obtain ⟨R, fr, l, r, a, q, kk, vv, z, w, L, cy, ks, vs, rfl, rfl, hI, hcy, hg⟩ := I
  obtain ⟨hs, hO, hl, v0⟩ := rb_I_f hI
  have hlE : (rb_E kk vv L).length ≤ 48 := by rw [rb_E_len]; exact hl
  unfold wpX_next wpY_next
  dsimp only
  rcases rb_cur hcy with ⟨h1, h2⟩ | ⟨L1, n, L2, eL, h1, h2⟩
  · refine br_t (by rw [h2]; rfl) (br_t ?_ ⟨rfl, I2⟩)
    rw [rb_yeq (by omega) hlE, rb_E_len]; exact h1
  · have hn := hO.2 n (by rw [eL]; simp)
    have hcl : cy < L.length := by rw [eL, ← h1]; simp
    rw [h2]
    refine br_f (by rw [rb_eq0 hn.2]; omega) ?_
    have hI1 := hI
    rw [eL] at hI1
    refine rb_Xbehind hI1 ?_
    have ec : ((L[cy + 1]?).getD 0) = L2.headD 0 := by
      rw [eL, ← h1, List.getElem?_append_right (by omega), Nat.add_sub_cancel_left, List.getElem?_cons_succ]
      cases L2 <;> rfl
    have fin : ∀ x : Int32, x = nI cy + 1 → x = nI (cy + 1) := fun x hx => hx.trans (nI_1 cy)
    have hne : ¬ nI cy = nI (rb_E kk vv L).length := by rw [rb_yeq (by omega) hlE, rb_E_len]; omega
    have I3 : i_Rel (k + 3) (R, fr, nI (L2.headD 0), l, r, a, q, kk, vv, z, w) (nI (rb_E kk vv L).length, nI (cy + 1), ks, vs) := rb_mk hI (by omega) hg (by rw [ec]) rfl
    cases L2 with
    | nil =>
      refine br_t rb_z0 (br_f hne (nm_r (nI_1 cy) (br_t ?_ ⟨rfl, I3⟩)))
      rw [rb_yle hlE (by omega), rb_E_len, eL, ← h1]; simp
    | cons m L2 =>
      have hm := hO.2 m (by rw [eL]; simp)
      have eh : (m :: L2).headD 0 = m := rfl
      rw [eh] at I3 ⊢
      refine br_f (by rw [rb_le0 hm.2]; omega) (br_f hne (nm_r (nI_1 cy) (br_f ?_ ⟨rfl, I3⟩)))
      rw [rb_yle hlE (by omega), rb_E_len, eL, ← h1]; simp
theorem i_vc_back {k : Nat} {u : SX} {v : SY} (I : i_Rel k u v) (hk : k + 3 ≤ 1536) : wpX_back (fun r u' => wpY_back (fun r' v' => r' = r ∧ i_Rel (k + 3) u' v') v) u := by
  have I2 := i_up I
  obtain ⟨R, fr, l, r, a, q, kk, vv, z, w, L, cy, ks, vs, rfl, rfl, hI, hcy, hg⟩ := I
  obtain ⟨hs, hO, hl, v0⟩ := rb_I_f hI
  have hlE : (rb_E kk vv L).length ≤ 48 := by rw [rb_E_len]; exact hl
  unfold wpX_back wpY_back
  dsimp only
  obtain ⟨r1, r2⟩ := rb_Xroot hI
  rcases rb_cur hcy with ⟨h1, h2⟩ | ⟨L1, n, L2, eL, h1, h2⟩
  · refine br_t (by rw [h2]; rfl) ⟨r1, ?_⟩
    rw [r2]
    cases hL : L with
    | nil =>
      subst hL
      refine rb_XnodeAt0 hI ?_
      unfold wX_back_33
      have hc0 : cy = 0 := h1
      subst hc0
      exact br_t rfl (br_t rfl ⟨rfl, I2⟩)
    | cons m0 L0 =>
      rw [← hL]
      have hLl : L.length = L0.length + 1 := by rw [hL]; rfl
      have e1 : nI L.length - 1 = nI L0.length := by rw [hLl]; exact nI_pred _
      rw [e1]
      refine rb_XnodeAt (by omega) hI ?_
      have h' : L0.length < L.length := by omega
      rw [List.getElem?_eq_getElem h', Option.getD_some]
      have hn := hO.2 _ (List.getElem_mem h')
      unfold wX_back_33
      have e2 : nI cy - 1 = nI L0.length := by rw [h1]; exact e1
      refine br_f (by rw [rb_eq0 hn.2]; omega) (br_f ?_ (nm_r e2 ⟨rfl, ?_⟩))
      · rw [rb_eq0 (by omega)]; omega
      · refine rb_mk hI (by omega) hg ?_ rfl
        rw [List.getElem?_eq_getElem h', Option.getD_some]
  · have hn := hO.2 n (by rw [eL]; simp)
    have hcl : cy < L.length := by rw [eL, ← h1]; simp
    refine br_f (by rw [h2, rb_eq0 hn.2]; omega) ?_
    have hI1 := hI
    rw [eL] at hI1
    have goal2 : wpX_nodeBefore (fun r_2 => (wX_back_33 (fun r_1 u' => ((nI cy = 0 → ((-1) = r_1 ∧ i_Rel (k + 3) u' (nI (rb_E kk vv L).length, nI cy, ks, vs))) ∧ (¬ nI cy = 0 → (∀ f_cursor_2 : Int32, f_cursor_2 = nI cy - 1 → (1 = r_1 ∧ i_Rel (k + 3) u' (nI (rb_E kk vv L).length, f_cursor_2, ks, vs)))))) r_2 R fr (nI ((L[cy]?).getD 0)) l r a q kk vv z w)) (R, fr, nI ((L[cy]?).getD 0), l, r, a, q, kk, vv, z, w) (nI n) := by
      refine rb_Xbefore hI1 ?_
      unfold wX_back_33
      rcases rb_snoc L1 with e | ⟨L1', m, e⟩
      · subst e
        have hc0 : cy = 0 := h1.symm
        subst hc0
        exact br_t rfl (br_t rfl ⟨rfl, I2⟩)
      · subst e
        rw [List.getLastD_concat]
        have hm := hO.2 m (by rw [eL]; simp)
        have hc1 : cy = L1'.length + 1 := by rw [← h1]; simp
        refine br_f (by rw [rb_eq0 hm.2]; omega) (br_f ?_ (nm_r (e' := nI L1'.length) ?_ ⟨rfl, ?_⟩))
        · rw [rb_eq0 (by omega)]; omega
        · rw [hc1]; exact nI_pred _
        · refine rb_mk hI (by omega) hg ?_ rfl
          rw [eL, List.append_assoc]
          have : (L1' ++ ([m] ++ n :: L2))[L1'.length]? = some m := rb_mid
          rw [this]; rfl
    rw [h2] at goal2 ⊢
    exact goal2
end
section
/-! the owed ones: methods that store -/
theorem i_vc_set {k : Nat} {u : SX} {v : SY} (I : i_Rel k u v) (hk : k + 3 ≤ 1536) (v1 : Int32) : wpX_set (fun r u' => wpY_set (fun r' v' => r' = r ∧ i_Rel (k + 3) u' v') v v1) u v1 := by
  have I2 := i_up I
  obtain ⟨R, fr, l, r, a, q, kk, vv, z, w, L, cy, ks, vs, rfl, rfl, hI, hcy, hg⟩ := I
  obtain ⟨hs, hO, hl, v0⟩ := rb_I_f hI
  have hlE : (rb_E kk vv L).length ≤ 48 := by rw [rb_E_len]; exact hl
  unfold wpX_set wpY_set
  dsimp only
  rcases rb_cur hcy with ⟨h1, h2⟩ | ⟨L1, n, L2, eL, h1, h2⟩
  · refine br_t (by rw [h2]; rfl) (br_t ?_ ⟨rfl, I2⟩)
    rw [rb_yeq (by omega) hlE, rb_E_len]; exact h1
  · have hn := hO.2 n (by rw [eL]; simp)
    have hcl : cy < L.length := by rw [eL, ← h1]; simp
    have hne : ¬ nI cy = nI (rb_E kk vv L).length := by rw [rb_yeq (by omega) hlE, rb_E_len]; omega
    have hE : rb_E kk vv L = rb_E kk vv L1 ++ (kk n, vv n) :: rb_E kk vv L2 := by rw [eL, rb_E_app, rb_E_cons]
    have hl1 : (rb_E kk vv L1).length = cy := by rw [rb_E_len]; exact h1
    have hat := hg cy (kk n, vv n) (by rw [hE, ← hl1]; exact rb_mid)
    rw [h2, rb_clm hn.2, rb_yc (by omega)]
    refine br_f (by rw [rb_eq0 hn.2]; omega) ⟨rb_vi hn.2, nm_e ⟨rb_vi hn.2, nm_e ?_⟩⟩
    refine rb_setv hI (by rw [eL]; simp) ?_
    intro z' w' hI'
    dsimp only
    refine br_f hne ⟨rb_y48 (by omega), nm_e ⟨rb_y48 (by omega), nm_e ⟨hat.2, ?_⟩⟩⟩
    have hd := hO.1
    rw [eL] at hd
    refine rb_mk hI' (by omega) ?_ (by rw [h2]) (by rw [rb_E_len, rb_E_len])
    rw [eL, rb_E_set hd]
    intro i e he
    by_cases hi : i = cy
    · subst hi
      have e2 : (kk n, v1) = e := by
        have e3 : (rb_E kk vv L1 ++ (kk n, v1) :: rb_E kk vv L2)[i]? = some (kk n, v1) := by rw [← hl1]; exact rb_mid
        rw [e3] at he; exact Option.some.inj he
      rw [← e2]
      exact ⟨hat.1, rb_us⟩
    · rw [rb_un hi]
      refine hg i e ?_
      rw [hE]
      rcases Nat.lt_or_ge i cy with h | h
      · rw [List.getElem?_append_left (by omega)] at he ⊢; exact he
      · obtain ⟨d, rfl⟩ : ∃ d, i = (rb_E kk vv L1).length + (d + 1) := ⟨i - (rb_E kk vv L1).length - 1, by omega⟩
        rw [List.getElem?_append_right (by omega), Nat.add_sub_cancel_left] at he ⊢
        exact he
theorem i_vc_put {k : Nat} {u : SX} {v : SY} (I : i_Rel k u v) (hk : k + 3 ≤ 1536) (v1 : Int32) (v2 : Int32) : wpX_put (fun r u' => wpY_put (fun r' v' => r' = r ∧ i_Rel (k + 3) u' v') v v1 v2) u v1 v2 := by
  have I2 := i_up I
  obtain ⟨R, fr, l, r, a, q, kk, vv, z, w, L, cy, ks, vs, rfl, rfl, hI, hcy, hg⟩ := I
  obtain ⟨hs, hO, hl, v0⟩ := rb_I_f hI
  have hlE : (rb_E kk vv L).length ≤ 48 := by rw [rb_E_len]; exact hl
  refine rb_put hI ?_ ?_ ?_
  · intro L1 n L2 z' w' eL ek hI'
    have hs' := hs
    rw [eL] at hs'
    obtain ⟨s1, s2⟩ := rb_mids hs'
    rw [ek] at s1 s2
    have hE : rb_E kk vv L = rb_E kk vv L1 ++ (v1, vv n) :: rb_E kk vv L2 := by rw [eL, rb_E_at ek]
    have hd := hO.1
    rw [eL] at hd
    rw [hE] at hg hlE ⊢
    refine rb_yput_old hlE hg (rb_E_lt s1) (rb_E_gt s2) ?_
    intro vs' hg'
    refine ⟨rfl, rb_mk hI' hcy ?_ rfl (by rw [← hE, rb_E_len, rb_E_len])⟩
    rw [eL, rb_E_set hd, ek]; exact hg'
  · intro hfull hn
    obtain ⟨A, B, eL, a1, a2⟩ := rb_nf hs hn
    subst eL
    rw [rb_E_app] at hg I2 ⊢
    refine rb_yput_full ?_ hg (rb_E_lt a1) (rb_E_gt a2) ⟨rfl, I2⟩
    rw [← rb_E_app, rb_E_len]; exact hfull
  · intro L1 L2 n R' fr' l' r' a' q' z' w' eL a1 a2 hlt hn h0 hI'
    subst eL
    rw [rb_E_app] at hg ⊢
    have el : (rb_E kk vv L1 ++ rb_E kk vv L2).length = (L1 ++ L2).length := by rw [← rb_E_app, rb_E_len]
    refine rb_yput_new (by omega) (by omega) hg (rb_E_lt a1) (rb_E_gt a2) ?_
    intro ks' vs' hg'
    rw [rb_E_len]
    have eN := rb_E_new (k := kk) (v := vv) (x := v1) (y := v2) hn
    refine ⟨rfl, rb_mk hI' ?_ (by rw [eN]; exact hg') (congrArg nI rb_curIn) (by rw [eN])⟩
    simp only [List.length_append, List.length_cons] at hcy ⊢
    split <;> omega
theorem i_vc_remove {k : Nat} {u : SX} {v : SY} (I : i_Rel k u v) (hk : k + 3 ≤ 1536) (v1 : Int32) : wpX_remove (fun r u' => wpY_remove (fun r' v' => r' = r ∧ i_Rel (k + 3) u' v') v v1) u v1 := by
  have I2 := i_up I
  obtain ⟨R, fr, l, r, a, q, kk, vv, z, w, L, cy, ks, vs, rfl, rfl, hI, hcy, hg⟩ := I
  obtain ⟨hs, hO, hl, v0⟩ := rb_I_f hI
  have hlE : (rb_E kk vv L).length ≤ 48 := by rw [rb_E_len]; exact hl
  unfold wpX_remove
  dsimp only
  refine rb_Xfind hI ?_ ?_
  · intro L1 m L2 eL em
    subst eL
    have hm := hO.2 m (by simp)
    obtain ⟨s1, s2⟩ := rb_mids hs
    rw [em] at s1 s2
    refine br_f (by rw [rb_eq0 hm.2]; omega) (rb_removeNode hI ?_)
    intro R' fr' l' r' a' q' z' w' hI'
    rw [rb_curRm hO]
    dsimp only
    have hcy' : cy ≤ (rb_E kk vv (L1 ++ m :: L2)).length := by rw [rb_E_len]; exact hcy
    rw [rb_E_at em] at hg hlE hcy' ⊢
    refine rb_yrem_t hlE hcy' hg (rb_E_lt s1) (rb_E_gt s2) ?_
    intro ks' vs' hg'
    rw [← rb_E_app] at hg' ⊢
    rw [rb_E_len (L := L1)]
    refine ⟨rfl, rb_mk hI' ?_ hg' rfl rfl⟩
    simp only [List.length_append, List.length_cons] at hcy ⊢
    split <;> omega
  · intro hn
    obtain ⟨A, B, eL, a1, a2⟩ := rb_nf hs hn
    subst eL
    refine br_t rfl ?_
    rw [rb_E_app] at hg hlE I2 ⊢
    exact rb_yrem_f hlE hg (rb_E_lt a1) (rb_E_gt a2) ⟨rfl, I2⟩
theorem i_vc_removeAll {k : Nat} {u : SX} {v : SY} (I : i_Rel k u v) (hk : k + 3 ≤ 1536) (v1 : Int32) (v2 : Int32) : wpX_removeAll (fun r u' => wpY_removeAll (fun r' v' => r' = r ∧ i_Rel (k + 3) u' v') v v1 v2) u v1 v2 := by
  obtain ⟨R, fr, l, r, a, q, kk, vv, z, w, L, cy, ks, vs, rfl, rfl, hI, hcy, hg⟩ := I
  obtain ⟨hs, hO, hl, v0⟩ := rb_I_f hI
  have hlE : (rb_E kk vv L).length ≤ 48 := by rw [rb_E_len]; exact hl
  have hcyE : cy ≤ (rb_E kk vv L).length := by rw [rb_E_len]; exact hcy
  obtain ⟨L1, L', e1, a1, a2⟩ := rb_sp v1 hs
  subst e1
  obtain ⟨LM, L3, e2, b1, b2⟩ := rb_split (k := kk) (p := fun y => y ≤ v2) (fun a b h1 h2 => Int32.le_of_lt (Int32.lt_of_lt_of_le h1 h2)) L' (List.pairwise_append.mp hs).2.1
  subst e2
  have hM : ∀ j, j ∈ LM → v1 ≤ kk j ∧ kk j ≤ v2 := fun j hj => ⟨a2 j (List.mem_append.mpr (Or.inl hj)), b1 j hj⟩
  have h3 : ∀ j, j ∈ L3 → v1 ≤ kk j ∧ v2 < kk j := fun j hj => ⟨a2 j (List.mem_append.mpr (Or.inr hj)), Int32.not_le.mp (b2 j hj)⟩
  have hMl : LM.length ≤ 48 := by
    simp only [List.length_append] at hl; omega
  unfold wpX_removeAll
  dsimp only
  refine ⟨60, rb_xra a1 h3 LM 60 0 0 cy R fr l r a q z w (by omega) (by omega) hI hM ?_⟩
  intro R' fr' l' r' a' q' z' w' hI'
  have hsE := rb_E_pw (v := vv) hs
  rw [rb_E_app, rb_E_app] at hg hlE hcyE hsE ⊢
  refine rb_yremAll hlE hcyE hsE hg (rb_E_lt a1) (rb_E_all (P := fun y => v1 ≤ y ∧ y ≤ v2) hM) (rb_E_gt (fun j hj => (h3 j hj).2)) ?_
  intro ks' vs' hg'
  rw [← rb_E_app] at hg' ⊢
  rw [rb_E_len (L := LM), rb_E_len (L := L1)]
  refine ⟨by rw [Nat.zero_add], rb_mk hI' ?_ hg' rfl rfl⟩
  simp only [List.length_append] at hcy ⊢
  unfold rb_cf
  split
  · omega
  · split <;> omega
end

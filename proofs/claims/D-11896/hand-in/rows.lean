section
/-- a row: node and number, in order -/
abbrev sp_Ls : Type := List (Nat × Int32)
/-- the sum of the numbers -/
def sp_sum : sp_Ls → Int32
  | [] => 0
  | e :: l => e.2 + sp_sum l
theorem sp_sum_app (A B : sp_Ls) : sp_sum (A ++ B) = sp_sum A + sp_sum B := by
  induction A with
  | nil => simp [sp_sum]
  | cons e l ih =>
    show e.2 + sp_sum (l ++ B) = e.2 + sp_sum l + sp_sum B
    rw [ih, Int32.add_assoc]
theorem sp_sum_rev (A : sp_Ls) : sp_sum A.reverse = sp_sum A := by
  induction A with
  | nil => rfl
  | cons e l ih =>
    rw [List.reverse_cons, sp_sum_app, ih]
    show sp_sum l + (e.2 + 0) = e.2 + sp_sum l
    rw [Int32.add_zero, Int32.add_comm]
def sp_ng (e : Nat × Int32) : Nat × Int32 := (e.1, -e.2)
def sp_up (d : Int32) (e : Nat × Int32) : Nat × Int32 := (e.1, e.2 + d)
theorem sp_sum_ng (A : sp_Ls) : sp_sum (A.map sp_ng) = - sp_sum A := by
  induction A with
  | nil => rfl
  | cons e l ih =>
    show -e.2 + sp_sum (l.map sp_ng) = -(e.2 + sp_sum l)
    rw [ih]
    grind
theorem sp_sum_up (d : Int32) (A : sp_Ls) : sp_sum (A.map (sp_up d)) = sp_sum A + d * nI A.length := by
  induction A with
  | nil =>
    show (0 : Int32) = 0 + d * nI 0
    rw [nI_0]
    grind
  | cons e l ih =>
    show e.2 + d + sp_sum (l.map (sp_up d)) = e.2 + sp_sum l + d * nI (l.length + 1)
    rw [ih, nI_succ]
    grind
/-- what is still to be done below a node: turn, change signs, add -/
def sp_F (t m d : Int32) (A : sp_Ls) : sp_Ls := (if t = 0 then A else A.reverse).map (fun e => (e.1, (if m = 0 then e.2 else -e.2) + d))
theorem sp_F_0 (A : sp_Ls) : sp_F 0 0 0 A = A := by
  unfold sp_F
  rw [if_pos rfl]
  have : (fun e : Nat × Int32 => (e.1, (if (0 : Int32) = 0 then e.2 else -e.2) + 0)) = id := by
    funext e
    rw [if_pos rfl, Int32.add_zero]
    rfl
  rw [this, List.map_id]
theorem sp_F_flip (t m d : Int32) (A : sp_Ls) : sp_F (if t = 0 then 1 else 0) m d A = (sp_F t m d A).reverse := by
  unfold sp_F
  by_cases h : t = 0
  · rw [if_pos h, if_pos h, if_neg (by decide), List.map_reverse]
  · rw [if_neg h, if_neg h, if_pos rfl, List.map_reverse, List.reverse_reverse]
theorem sp_F_ng (t m d : Int32) (A : sp_Ls) : sp_F t (if m = 0 then 1 else 0) (-d) A = (sp_F t m d A).map sp_ng := by
  unfold sp_F
  rw [List.map_map]
  congr 1
  funext e
  by_cases h : m = 0
  · simp only [h, if_true, Function.comp, sp_ng]
    rw [if_neg (by decide)]
    congr 1
    grind
  · simp only [h, if_false, if_true, Function.comp, sp_ng]
    congr 1
    grind
theorem sp_F_up (t m d c : Int32) (A : sp_Ls) : sp_F t m (d + c) A = (sp_F t m d A).map (sp_up c) := by
  unfold sp_F
  rw [List.map_map]
  congr 1
  funext e
  simp only [Function.comp, sp_up, Int32.add_assoc]
theorem sp_F_t {t : Int32} (h : ¬ t = 0) (m d : Int32) (A : sp_Ls) : sp_F t m d A = sp_F 0 m d A.reverse := by
  unfold sp_F
  rw [if_neg h, if_pos rfl]
theorem sp_F_m {m : Int32} (h : ¬ m = 0) (d : Int32) (A : sp_Ls) : sp_F 0 m d A = sp_F 0 0 d (A.map sp_ng) := by
  unfold sp_F
  rw [if_pos rfl, if_pos rfl, List.map_map]
  congr 1
  funext e
  simp only [h, if_false, if_true, Function.comp, sp_ng]
theorem sp_F_d (d : Int32) (A : sp_Ls) : sp_F 0 0 d A = A.map (sp_up d) := by
  unfold sp_F
  rw [if_pos rfl]
  congr 1
theorem sp_F_len (t m d : Int32) (A : sp_Ls) : (sp_F t m d A).length = A.length := by
  unfold sp_F
  rw [List.length_map]
  by_cases h : t = 0
  · rw [if_pos h]
  · rw [if_neg h, List.length_reverse]
/-- the nodes -/
def sp_ids (A : sp_Ls) : List Nat := A.map Prod.fst
theorem sp_ids_app (A B : sp_Ls) : sp_ids (A ++ B) = sp_ids A ++ sp_ids B := List.map_append
theorem sp_ids_cons (e : Nat × Int32) (B : sp_Ls) : sp_ids (e :: B) = e.1 :: sp_ids B := rfl
theorem sp_ids_rev (A : sp_Ls) : sp_ids A.reverse = (sp_ids A).reverse := List.map_reverse
theorem sp_ids_ng (A : sp_Ls) : sp_ids (A.map sp_ng) = sp_ids A := by
  unfold sp_ids
  rw [List.map_map]
  rfl
theorem sp_ids_up (d : Int32) (A : sp_Ls) : sp_ids (A.map (sp_up d)) = sp_ids A := by
  unfold sp_ids
  rw [List.map_map]
  rfl
theorem sp_ids_F (t m d : Int32) (A : sp_Ls) : sp_ids (sp_F t m d A) = if t = 0 then sp_ids A else (sp_ids A).reverse := by
  unfold sp_ids sp_F
  rw [List.map_map]
  by_cases h : t = 0
  · rw [if_pos h, if_pos h]
    rfl
  · rw [if_neg h, if_neg h, ← List.map_reverse]
    rfl
theorem sp_mem_F {t m d : Int32} {A : sp_Ls} {y : Nat} : y ∈ sp_ids (sp_F t m d A) ↔ y ∈ sp_ids A := by
  rw [sp_ids_F]
  split <;> simp
def sp_un (A : sp_Ls) : Prop := (sp_ids A).Nodup
theorem sp_un_F {t m d : Int32} {A : sp_Ls} (h : sp_un (sp_F t m d A)) : sp_un A := by
  unfold sp_un at h ⊢
  rw [sp_ids_F] at h
  split at h
  · exact h
  · exact (List.reverse_perm _).nodup_iff.mp h
theorem sp_un_app {A B : sp_Ls} : sp_un (A ++ B) ↔ sp_un A ∧ sp_un B ∧ ∀ y, y ∈ sp_ids A → y ∉ sp_ids B := by
  unfold sp_un
  rw [sp_ids_app, List.nodup_append]
  constructor
  · rintro ⟨a, b, c⟩
    exact ⟨a, b, fun y h1 h2 => c y h1 y h2 rfl⟩
  · rintro ⟨a, b, c⟩
    exact ⟨a, b, fun y h1 z h2 e => c y h1 (e ▸ h2)⟩
theorem sp_un_cons {e : Nat × Int32} {B : sp_Ls} : sp_un (e :: B) ↔ e.1 ∉ sp_ids B ∧ sp_un B := by
  unfold sp_un
  rw [sp_ids_cons, List.nodup_cons]
theorem sp_un_rev {A : sp_Ls} (h : sp_un A) : sp_un A.reverse := by
  unfold sp_un at h ⊢
  rw [sp_ids_rev]
  exact (List.reverse_perm _).nodup_iff.mpr h
/-- numbers in range -/
def sp_bv (v : Int32) : Prop := -1000000 ≤ v.toInt ∧ v.toInt ≤ 1000000
def sp_bd (A : sp_Ls) : Prop := ∀ e, e ∈ A → sp_bv e.2
def sp_mx (a b : Int32) : Int32 := if a ≤ b then b else a
def sp_mn (a b : Int32) : Int32 := if b ≤ a then b else a
/-- the greatest, the least -/
def sp_hi (h : Int32) (A : sp_Ls) : Prop := (∀ e, e ∈ A → e.2.toInt ≤ h.toInt) ∧ ((A = [] ∧ h = -2000000) ∨ ∃ e, e ∈ A ∧ e.2 = h)
def sp_lo (h : Int32) (A : sp_Ls) : Prop := (∀ e, e ∈ A → h.toInt ≤ e.2.toInt) ∧ ((A = [] ∧ h = 2000000) ∨ ∃ e, e ∈ A ∧ e.2 = h)
theorem sp_mx_T (a b : Int32) : (a.toInt ≤ b.toInt ∧ sp_mx a b = b) ∨ (b.toInt < a.toInt ∧ sp_mx a b = a) := by
  unfold sp_mx
  by_cases h : a ≤ b
  · exact Or.inl ⟨Int32.le_iff_toInt_le.mp h, if_pos h⟩
  · refine Or.inr ⟨?_, if_neg h⟩
    have := mt Int32.le_iff_toInt_le.mpr h
    omega
theorem sp_mn_T (a b : Int32) : (b.toInt ≤ a.toInt ∧ sp_mn a b = b) ∨ (a.toInt < b.toInt ∧ sp_mn a b = a) := by
  unfold sp_mn
  by_cases h : b ≤ a
  · exact Or.inl ⟨Int32.le_iff_toInt_le.mp h, if_pos h⟩
  · refine Or.inr ⟨?_, if_neg h⟩
    have := mt Int32.le_iff_toInt_le.mpr h
    omega
theorem sp_c2 : (-2000000 : Int32).toInt = -2000000 := by decide
theorem sp_c2' : (2000000 : Int32).toInt = 2000000 := by decide
theorem sp_bd_app {A B : sp_Ls} : sp_bd (A ++ B) ↔ sp_bd A ∧ sp_bd B := by
  unfold sp_bd
  constructor
  · intro h
    exact ⟨fun e he => h e (List.mem_append.mpr (Or.inl he)), fun e he => h e (List.mem_append.mpr (Or.inr he))⟩
  · rintro ⟨h1, h2⟩ e he
    exact (List.mem_append.mp he).elim (h1 e) (h2 e)
theorem sp_bd_cons {a : Nat × Int32} {B : sp_Ls} : sp_bd (a :: B) ↔ sp_bv a.2 ∧ sp_bd B := by
  unfold sp_bd
  constructor
  · intro h
    exact ⟨h a (List.mem_cons_self), fun e he => h e (List.mem_cons_of_mem _ he)⟩
  · rintro ⟨h1, h2⟩ e he
    rcases List.mem_cons.mp he with e1 | e1
    · rw [e1]; exact h1
    · exact h2 e e1
theorem sp_hi_node {A B : sp_Ls} {v a b : Int32} (x : Nat) (bv : sp_bv v) (ha : sp_hi a A) (hb : sp_hi b B) : sp_hi (sp_mx v (sp_mx a b)) (A ++ (x, v) :: B) := by
  obtain ⟨a1, a2⟩ := ha
  obtain ⟨b1, b2⟩ := hb
  have c := sp_c2
  unfold sp_bv at bv
  have hm : ∀ m : Int32, a.toInt ≤ m.toInt → b.toInt ≤ m.toInt → v.toInt ≤ m.toInt → ∀ e, e ∈ A ++ (x, v) :: B → e.2.toInt ≤ m.toInt := by
    intro m h1 h2 h3 e he
    rcases List.mem_append.mp he with g | g
    · have := a1 e g; omega
    · rcases List.mem_cons.mp g with g | g
      · rw [g]; exact h3
      · have := b1 e g; omega
  rcases sp_mx_T a b with ⟨h1, e1⟩ | ⟨h1, e1⟩ <;> rw [e1] <;> rcases sp_mx_T v _ with ⟨h2, e2⟩ | ⟨h2, e2⟩ <;> rw [e2]
  · refine ⟨hm _ h1 (Int.le_refl _) h2, Or.inr ?_⟩
    rcases b2 with ⟨_, g⟩ | ⟨e, g1, g2⟩
    · rw [g] at h2; omega
    · exact ⟨e, List.mem_append.mpr (Or.inr (List.mem_cons_of_mem _ g1)), g2⟩
  · exact ⟨hm _ (by omega) (by omega) (Int.le_refl _), Or.inr ⟨(x, v), List.mem_append.mpr (Or.inr List.mem_cons_self), rfl⟩⟩
  · refine ⟨hm _ (Int.le_refl _) (by omega) h2, Or.inr ?_⟩
    rcases a2 with ⟨_, g⟩ | ⟨e, g1, g2⟩
    · rw [g] at h2; omega
    · exact ⟨e, List.mem_append.mpr (Or.inl g1), g2⟩
  · exact ⟨hm _ (by omega) (by omega) (Int.le_refl _), Or.inr ⟨(x, v), List.mem_append.mpr (Or.inr List.mem_cons_self), rfl⟩⟩
theorem sp_lo_node {A B : sp_Ls} {v a b : Int32} (x : Nat) (bv : sp_bv v) (ha : sp_lo a A) (hb : sp_lo b B) : sp_lo (sp_mn v (sp_mn a b)) (A ++ (x, v) :: B) := by
  obtain ⟨a1, a2⟩ := ha
  obtain ⟨b1, b2⟩ := hb
  have c := sp_c2'
  unfold sp_bv at bv
  have hm : ∀ m : Int32, m.toInt ≤ a.toInt → m.toInt ≤ b.toInt → m.toInt ≤ v.toInt → ∀ e, e ∈ A ++ (x, v) :: B → m.toInt ≤ e.2.toInt := by
    intro m h1 h2 h3 e he
    rcases List.mem_append.mp he with g | g
    · have := a1 e g; omega
    · rcases List.mem_cons.mp g with g | g
      · rw [g]; exact h3
      · have := b1 e g; omega
  rcases sp_mn_T a b with ⟨h1, e1⟩ | ⟨h1, e1⟩ <;> rw [e1] <;> rcases sp_mn_T v _ with ⟨h2, e2⟩ | ⟨h2, e2⟩ <;> rw [e2]
  · refine ⟨hm _ h1 (Int.le_refl _) h2, Or.inr ?_⟩
    rcases b2 with ⟨_, g⟩ | ⟨e, g1, g2⟩
    · rw [g] at h2; omega
    · exact ⟨e, List.mem_append.mpr (Or.inr (List.mem_cons_of_mem _ g1)), g2⟩
  · exact ⟨hm _ (by omega) (by omega) (Int.le_refl _), Or.inr ⟨(x, v), List.mem_append.mpr (Or.inr List.mem_cons_self), rfl⟩⟩
  · refine ⟨hm _ (Int.le_refl _) (by omega) h2, Or.inr ?_⟩
    rcases a2 with ⟨_, g⟩ | ⟨e, g1, g2⟩
    · rw [g] at h2; omega
    · exact ⟨e, List.mem_append.mpr (Or.inl g1), g2⟩
  · exact ⟨hm _ (by omega) (by omega) (Int.le_refl _), Or.inr ⟨(x, v), List.mem_append.mpr (Or.inr List.mem_cons_self), rfl⟩⟩
theorem sp_neg_T {v : Int32} (h : sp_bv v) : (-v).toInt = -v.toInt := by
  unfold sp_bv at h
  rw [Int32.toInt_neg]
  simp only [Int.bmod]
  split <;> omega
theorem sp_add_T {v d : Int32} (h : sp_bv v) (h2 : sp_bv (v + d)) : (v + d).toInt = v.toInt + d.toInt := by
  unfold sp_bv at h h2
  have h3 := d.toInt_lt
  have h4 := d.le_toInt
  rw [Int32.toInt_add] at h2 ⊢
  simp only [Int.bmod] at h2 ⊢
  split at h2 <;> split <;> omega
theorem sp_bd_ng {A : sp_Ls} (h : sp_bd A) : sp_bd (A.map sp_ng) := by
  intro e he
  obtain ⟨a, ha, rfl⟩ := List.mem_map.mp he
  have h1 := h a ha
  have h2 := sp_neg_T h1
  unfold sp_bv at h1
  show -1000000 ≤ (-a.2).toInt ∧ (-a.2).toInt ≤ 1000000
  omega
theorem sp_hi_ng {A : sp_Ls} {m : Int32} (hb : sp_bd A) (hn : A ≠ []) (h : sp_lo m A) : sp_hi (-m) (A.map sp_ng) := by
  obtain ⟨h1, h2⟩ := h
  rcases h2 with ⟨g, _⟩ | ⟨e, g1, g2⟩
  · exact absurd g hn
  · have k := sp_neg_T (hb e g1)
    rw [g2] at k
    refine ⟨fun c hc => ?_, Or.inr ⟨sp_ng e, List.mem_map.mpr ⟨e, g1, rfl⟩, by rw [← g2]; rfl⟩⟩
    obtain ⟨a, ha, rfl⟩ := List.mem_map.mp hc
    have k2 := sp_neg_T (hb a ha)
    have k3 := h1 a ha
    show (-a.2).toInt ≤ _
    omega
theorem sp_lo_ng {A : sp_Ls} {m : Int32} (hb : sp_bd A) (hn : A ≠ []) (h : sp_hi m A) : sp_lo (-m) (A.map sp_ng) := by
  obtain ⟨h1, h2⟩ := h
  rcases h2 with ⟨g, _⟩ | ⟨e, g1, g2⟩
  · exact absurd g hn
  · have k := sp_neg_T (hb e g1)
    rw [g2] at k
    refine ⟨fun c hc => ?_, Or.inr ⟨sp_ng e, List.mem_map.mpr ⟨e, g1, rfl⟩, by rw [← g2]; rfl⟩⟩
    obtain ⟨a, ha, rfl⟩ := List.mem_map.mp hc
    have k2 := sp_neg_T (hb a ha)
    have k3 := h1 a ha
    show _ ≤ (-a.2).toInt
    omega
theorem sp_hi_up {A : sp_Ls} {m d : Int32} (hb : sp_bd A) (hb2 : sp_bd (A.map (sp_up d))) (hn : A ≠ []) (h : sp_hi m A) : sp_hi (m + d) (A.map (sp_up d)) := by
  obtain ⟨h1, h2⟩ := h
  rcases h2 with ⟨g, _⟩ | ⟨e, g1, g2⟩
  · exact absurd g hn
  · have k := sp_add_T (d := d) (hb e g1) (hb2 (sp_up d e) (List.mem_map.mpr ⟨e, g1, rfl⟩))
    rw [g2] at k
    refine ⟨fun c hc => ?_, Or.inr ⟨sp_up d e, List.mem_map.mpr ⟨e, g1, rfl⟩, by rw [← g2]; rfl⟩⟩
    obtain ⟨a, ha, rfl⟩ := List.mem_map.mp hc
    have k2 := sp_add_T (d := d) (hb a ha) (hb2 _ hc)
    have k3 := h1 a ha
    show (a.2 + d).toInt ≤ _
    omega
theorem sp_lo_up {A : sp_Ls} {m d : Int32} (hb : sp_bd A) (hb2 : sp_bd (A.map (sp_up d))) (hn : A ≠ []) (h : sp_lo m A) : sp_lo (m + d) (A.map (sp_up d)) := by
  obtain ⟨h1, h2⟩ := h
  rcases h2 with ⟨g, _⟩ | ⟨e, g1, g2⟩
  · exact absurd g hn
  · have k := sp_add_T (d := d) (hb e g1) (hb2 (sp_up d e) (List.mem_map.mpr ⟨e, g1, rfl⟩))
    rw [g2] at k
    refine ⟨fun c hc => ?_, Or.inr ⟨sp_up d e, List.mem_map.mpr ⟨e, g1, rfl⟩, by rw [← g2]; rfl⟩⟩
    obtain ⟨a, ha, rfl⟩ := List.mem_map.mp hc
    have k2 := sp_add_T (d := d) (hb a ha) (hb2 _ hc)
    have k3 := h1 a ha
    show _ ≤ (a.2 + d).toInt
    omega
theorem sp_hi_rev {A : sp_Ls} {m : Int32} (h : sp_hi m A) : sp_hi m A.reverse := by
  unfold sp_hi at h ⊢
  simpa using h
theorem sp_lo_rev {A : sp_Ls} {m : Int32} (h : sp_lo m A) : sp_lo m A.reverse := by
  unfold sp_lo at h ⊢
  simpa using h
theorem sp_bd_rev {A : sp_Ls} (h : sp_bd A) : sp_bd A.reverse := by
  unfold sp_bd at h ⊢
  simpa using h
/-- what a node knows of its subtree: size, sum, greatest, least -/
def sp_G (s t h w : Int32) (A : sp_Ls) : Prop := s = nI A.length ∧ t = sp_sum A ∧ sp_hi h A ∧ sp_lo w A
theorem sp_G_nil : sp_G 0 0 (-2000000) 2000000 [] :=
  ⟨rfl, rfl, ⟨fun e he => absurd he List.not_mem_nil, Or.inl ⟨rfl, rfl⟩⟩, ⟨fun e he => absurd he List.not_mem_nil, Or.inl ⟨rfl, rfl⟩⟩⟩
theorem sp_G_rev {s t h w : Int32} {A : sp_Ls} (g : sp_G s t h w A) : sp_G s t h w A.reverse :=
  ⟨by rw [List.length_reverse]; exact g.1, by rw [sp_sum_rev]; exact g.2.1, sp_hi_rev g.2.2.1, sp_lo_rev g.2.2.2⟩
theorem sp_G_ng {s t h w : Int32} {A : sp_Ls} (hb : sp_bd A) (hn : A ≠ []) (g : sp_G s t h w A) : sp_G s (-t) (-w) (-h) (A.map sp_ng) :=
  ⟨by rw [List.length_map]; exact g.1, by rw [sp_sum_ng, g.2.1], sp_hi_ng hb hn g.2.2.2, sp_lo_ng hb hn g.2.2.1⟩
theorem sp_G_up {s t h w d : Int32} {A : sp_Ls} (hb : sp_bd A) (hb2 : sp_bd (A.map (sp_up d))) (hn : A ≠ []) (g : sp_G s t h w A) : sp_G s (t + d * s) (h + d) (w + d) (A.map (sp_up d)) :=
  ⟨by rw [List.length_map]; exact g.1, by rw [sp_sum_up, g.2.1, g.1], sp_hi_up hb hb2 hn g.2.2.1, sp_lo_up hb hb2 hn g.2.2.2⟩
theorem sp_G_node {s t h w s' t' h' w' v : Int32} {A B : sp_Ls} (x : Nat) (bv : sp_bv v) (ga : sp_G s t h w A) (gb : sp_G s' t' h' w' B) :
    sp_G (s + 1 + s') (t + v + t') (sp_mx v (sp_mx h h')) (sp_mn v (sp_mn w w')) (A ++ (x, v) :: B) := by
  refine ⟨?_, ?_, sp_hi_node x bv ga.2.2.1 gb.2.2.1, sp_lo_node x bv ga.2.2.2 gb.2.2.2⟩
  · rw [ga.1, gb.1, nI_1, nI_add, List.length_append, List.length_cons]
    congr 1
    omega
  · rw [ga.2.1, gb.2.1, sp_sum_app]
    show _ = _ + (v + sp_sum B)
    rw [Int32.add_assoc]
end
section
def sp_row (u : St2) : Int32 := u.1
def sp_clp (u : St2) : Int32 := u.2.1
def sp_bef (u : St2) : Int32 := u.2.2.1
def sp_mid (u : St2) : Int32 := u.2.2.2.1
def sp_beh (u : St2) : Int32 := u.2.2.2.2.1
def sp_L (u : St2) : Nat → Int32 := u.2.2.2.2.2.1
def sp_R (u : St2) : Nat → Int32 := u.2.2.2.2.2.2.1
def sp_U (u : St2) : Nat → Int32 := u.2.2.2.2.2.2.2.1
def sp_V (u : St2) : Nat → Int32 := u.2.2.2.2.2.2.2.2.1
def sp_S (u : St2) : Nat → Int32 := u.2.2.2.2.2.2.2.2.2.1
def sp_T (u : St2) : Nat → Int32 := u.2.2.2.2.2.2.2.2.2.2.1
def sp_H (u : St2) : Nat → Int32 := u.2.2.2.2.2.2.2.2.2.2.2.1
def sp_M (u : St2) : Nat → Int32 := u.2.2.2.2.2.2.2.2.2.2.2.2.1
def sp_W (u : St2) : Nat → Int32 := u.2.2.2.2.2.2.2.2.2.2.2.2.2.1
def sp_tn (u : St2) : Nat → Int32 := u.2.2.2.2.2.2.2.2.2.2.2.2.2.2.1
def sp_mi (u : St2) : Nat → Int32 := u.2.2.2.2.2.2.2.2.2.2.2.2.2.2.2.1
def sp_ad (u : St2) : Nat → Int32 := u.2.2.2.2.2.2.2.2.2.2.2.2.2.2.2.2.1
def sp_us (u : St2) : Nat → Int32 := u.2.2.2.2.2.2.2.2.2.2.2.2.2.2.2.2.2.1
def sp_st (u : St2) : Nat → Int32 := u.2.2.2.2.2.2.2.2.2.2.2.2.2.2.2.2.2.2.1
def sp_cp (u : St2) : Nat → Int32 := u.2.2.2.2.2.2.2.2.2.2.2.2.2.2.2.2.2.2.2
/-- the links alone are new -/
def sp_mk (u : St2) (l r p : Nat → Int32) : St2 := (sp_row u, sp_clp u, sp_bef u, sp_mid u, sp_beh u, l, r, p, sp_V u, sp_S u, sp_T u, sp_H u, sp_M u, sp_W u, sp_tn u, sp_mi u, sp_ad u, sp_us u, sp_st u, sp_cp u)
/-- pull -/
def sp_pl (u : St2) (x l r : Nat) (h7 : Nat → Int32) : St2 := (sp_row u, sp_clp u, sp_bef u, sp_mid u, sp_beh u, sp_L u, sp_R u, sp_U u, sp_V u, upd (sp_S u) x (sp_S u l + 1 + sp_S u r), upd (sp_T u) x (sp_T u l + sp_V u x + sp_T u r), h7, upd (sp_M u) x (sp_mx (sp_V u x) (sp_mx (sp_M u l) (sp_M u r))), upd (sp_W u) x (sp_mn (sp_V u x) (sp_mn (sp_W u l) (sp_W u r))), sp_tn u, sp_mi u, sp_ad u, sp_us u, sp_st u, sp_cp u)
def sp_tu (u : St2) (x : Nat) (h7 : Nat → Int32) : St2 := (sp_row u, sp_clp u, sp_bef u, sp_mid u, sp_beh u, upd (sp_L u) x (sp_R u x), upd (sp_R u) x (sp_L u x), sp_U u, sp_V u, sp_S u, sp_T u, h7, sp_M u, sp_W u, upd (sp_tn u) x (if sp_tn u x = 0 then 1 else 0), sp_mi u, sp_ad u, sp_us u, sp_st u, sp_cp u)
def sp_nu (u : St2) (x : Nat) (h7 : Nat → Int32) : St2 := (sp_row u, sp_clp u, sp_bef u, sp_mid u, sp_beh u, sp_L u, sp_R u, sp_U u, upd (sp_V u) x (-sp_V u x), sp_S u, upd (sp_T u) x (-sp_T u x), h7, upd (sp_M u) x (-sp_W u x), upd (sp_W u) x (-sp_M u x), sp_tn u, upd (sp_mi u) x (if sp_mi u x = 0 then 1 else 0), upd (sp_ad u) x (-sp_ad u x), sp_us u, sp_st u, sp_cp u)
def sp_au (u : St2) (x : Nat) (d : Int32) (h7 : Nat → Int32) : St2 := (sp_row u, sp_clp u, sp_bef u, sp_mid u, sp_beh u, sp_L u, sp_R u, sp_U u, upd (sp_V u) x (sp_V u x + d), sp_S u, upd (sp_T u) x (sp_T u x + d * sp_S u x), h7, upd (sp_M u) x (sp_M u x + d), upd (sp_W u) x (sp_W u x + d), sp_tn u, sp_mi u, upd (sp_ad u) x (sp_ad u x + d), sp_us u, sp_st u, sp_cp u)
def sp_stn (u : St2) (x : Nat) : St2 := (sp_row u, sp_clp u, sp_bef u, sp_mid u, sp_beh u, sp_L u, sp_R u, sp_U u, sp_V u, sp_S u, sp_T u, sp_H u, sp_M u, sp_W u, upd (sp_tn u) x 0, sp_mi u, sp_ad u, sp_us u, sp_st u, sp_cp u)
def sp_smi (u : St2) (x : Nat) : St2 := (sp_row u, sp_clp u, sp_bef u, sp_mid u, sp_beh u, sp_L u, sp_R u, sp_U u, sp_V u, sp_S u, sp_T u, sp_H u, sp_M u, sp_W u, sp_tn u, upd (sp_mi u) x 0, sp_ad u, sp_us u, sp_st u, sp_cp u)
def sp_sad (u : St2) (x : Nat) : St2 := (sp_row u, sp_clp u, sp_bef u, sp_mid u, sp_beh u, sp_L u, sp_R u, sp_U u, sp_V u, sp_S u, sp_T u, sp_H u, sp_M u, sp_W u, sp_tn u, sp_mi u, upd (sp_ad u) x 0, sp_us u, sp_st u, sp_cp u)
def sp_sc (u : St2) (r c b m h : Int32) : St2 := (r, c, b, m, h, sp_L u, sp_R u, sp_U u, sp_V u, sp_S u, sp_T u, sp_H u, sp_M u, sp_W u, sp_tn u, sp_mi u, sp_ad u, sp_us u, sp_st u, sp_cp u)
def sp_nd (u : St2) (y : Nat) : Int32 × Int32 × Int32 × Int32 × Int32 × Int32 × Int32 × Int32 × Int32 × Int32 := (sp_L u y, sp_R u y, sp_V u y, sp_S u y, sp_T u y, sp_M u y, sp_W u y, sp_tn u y, sp_mi u y, sp_ad u y)
theorem sp_nd_i {u u' : St2} {y : Nat} : sp_nd u' y = sp_nd u y ↔ sp_L u' y = sp_L u y ∧ sp_R u' y = sp_R u y ∧ sp_V u' y = sp_V u y ∧ sp_S u' y = sp_S u y ∧ sp_T u' y = sp_T u y ∧ sp_M u' y = sp_M u y ∧ sp_W u' y = sp_W u y ∧ sp_tn u' y = sp_tn u y ∧ sp_mi u' y = sp_mi u y ∧ sp_ad u' y = sp_ad u y := by
  unfold sp_nd
  simp only [Prod.mk.injEq]
/-- node 0 -/
def sp_Z (u : St2) : Prop := sp_S u 0 = 0 ∧ sp_T u 0 = 0 ∧ sp_M u 0 = -2000000 ∧ sp_W u 0 = 2000000
/-- a node x under p, with the subtrees l and r that hold A and B; L is what it holds -/
def sp_N (u : St2) (p x l r : Nat) (A B L : sp_Ls) : Prop :=
  (0 < x ∧ x < 49) ∧ sp_U u x = nI p ∧ sp_L u x = nI l ∧ sp_R u x = nI r ∧
  L = sp_F (sp_tn u x) (sp_mi u x) (sp_ad u x) A ++ (x, sp_V u x) :: sp_F (sp_tn u x) (sp_mi u x) (sp_ad u x) B ∧
  sp_G (sp_S u x) (sp_T u x) (sp_M u x) (sp_W u x) L ∧ sp_bd L
def sp_D (u : St2) : Nat → Nat → Nat → sp_Ls → Prop
  | 0 => fun _ x L => x = 0 ∧ L = []
  | d + 1 => fun p x L => (x = 0 ∧ L = []) ∨ ∃ l r A B, sp_N u p x l r A B L ∧ sp_D u d x l A ∧ sp_D u d x r B
/-- the tree at x under p holds L -/
def sp_t (u : St2) (p x : Nat) (L : sp_Ls) : Prop := ∃ d, sp_D u d p x L
theorem sp_D_s {u : St2} : ∀ (d p x : Nat) (L : sp_Ls), sp_D u d p x L → sp_D u (d + 1) p x L := by
  intro d
  induction d with
  | zero => intro p x L h; exact Or.inl h
  | succ d ih =>
    intro p x L h
    rcases h with h | ⟨l, r, A, B, h1, h2, h3⟩
    · exact Or.inl h
    · exact Or.inr ⟨l, r, A, B, h1, ih _ _ _ h2, ih _ _ _ h3⟩
theorem sp_D_le {u : St2} {d e p x : Nat} {L : sp_Ls} (h : d ≤ e) (hd : sp_D u d p x L) : sp_D u e p x L := by
  induction e with
  | zero =>
    have : d = 0 := by omega
    subst this
    exact hd
  | succ e ih =>
    by_cases g : d = e + 1
    · subst g; exact hd
    · exact sp_D_s _ _ _ _ (ih (by omega))
theorem sp_t_nil (u : St2) (p : Nat) : sp_t u p 0 [] := ⟨0, rfl, rfl⟩
theorem sp_t_node {u : St2} {p x l r : Nat} {A B L : sp_Ls} (h : sp_N u p x l r A B L) (ha : sp_t u x l A) (hb : sp_t u x r B) : sp_t u p x L := by
  obtain ⟨d, ha⟩ := ha
  obtain ⟨e, hb⟩ := hb
  exact ⟨max d e + 1, Or.inr ⟨l, r, A, B, h, sp_D_le (by omega) ha, sp_D_le (by omega) hb⟩⟩
theorem sp_t_inv {u : St2} {p x : Nat} {L : sp_Ls} (h : sp_t u p x L) (hx : x ≠ 0) : ∃ l r A B, sp_N u p x l r A B L ∧ sp_t u x l A ∧ sp_t u x r B := by
  obtain ⟨d, h⟩ := h
  cases d with
  | zero => exact absurd h.1 hx
  | succ d =>
    rcases h with h | ⟨l, r, A, B, h1, h2, h3⟩
    · exact absurd h.1 hx
    · exact ⟨l, r, A, B, h1, ⟨d, h2⟩, ⟨d, h3⟩⟩
theorem sp_t_0 {u : St2} {p : Nat} {L : sp_Ls} (h : sp_t u p 0 L) : L = [] := by
  obtain ⟨d, h⟩ := h
  cases d with
  | zero => exact h.2
  | succ d =>
    rcases h with h | ⟨l, r, A, B, h1, h2, h3⟩
    · exact h.2
    · exact absurd h1.1.1 (by omega)
theorem sp_N_ids {u : St2} {p x l r : Nat} {A B L : sp_Ls} (h : sp_N u p x l r A B L) (y : Nat) : y ∈ sp_ids L ↔ y ∈ sp_ids A ∨ y = x ∨ y ∈ sp_ids B := by
  rw [h.2.2.2.2.1, sp_ids_app, sp_ids_cons, List.mem_append, List.mem_cons, sp_mem_F, sp_mem_F]
theorem sp_N_un {u : St2} {p x l r : Nat} {A B L : sp_Ls} (h : sp_N u p x l r A B L) (hu : sp_un L) : sp_un A ∧ sp_un B ∧ x ∉ sp_ids A ∧ x ∉ sp_ids B ∧ ∀ y, y ∈ sp_ids A → y ∉ sp_ids B := by
  rw [h.2.2.2.2.1, sp_un_app, sp_un_cons] at hu
  obtain ⟨h1, ⟨h2, h3⟩, h4⟩ := hu
  refine ⟨sp_un_F h1, sp_un_F h3, fun g => ?_, fun g => h2 (sp_mem_F.mpr g), fun y g g2 => ?_⟩
  · exact h4 x (sp_mem_F.mpr g) (by rw [sp_ids_cons]; exact List.mem_cons_self)
  · exact h4 y (sp_mem_F.mpr g) (by rw [sp_ids_cons]; exact List.mem_cons_of_mem _ (sp_mem_F.mpr g2))
theorem sp_N_nn {u : St2} {p x l r : Nat} {A B L : sp_Ls} (h : sp_N u p x l r A B L) : L ≠ [] := by
  rw [h.2.2.2.2.1]
  simp
theorem sp_t_nn {u : St2} {p x : Nat} {L : sp_Ls} (h : sp_t u p x L) (hx : x ≠ 0) : L ≠ [] := by
  obtain ⟨l, r, A, B, h1, _⟩ := sp_t_inv h hx
  exact sp_N_nn h1
theorem sp_t_e {u : St2} {p x : Nat} (h : sp_t u p x []) : x = 0 := by
  by_cases hx : x = 0
  · exact hx
  · exact absurd rfl (sp_t_nn h hx)
theorem sp_t_mem {u : St2} {p x : Nat} {L : sp_Ls} (h : sp_t u p x L) (hx : x ≠ 0) : x ∈ sp_ids L := by
  obtain ⟨l, r, A, B, h1, _⟩ := sp_t_inv h hx
  exact (sp_N_ids h1 x).mpr (Or.inr (Or.inl rfl))
theorem sp_t_lt {u : St2} {p x : Nat} {L : sp_Ls} (h : sp_t u p x L) : x < 49 := by
  by_cases hx : x = 0
  · omega
  · obtain ⟨l, r, A, B, h1, _⟩ := sp_t_inv h hx
    exact h1.1.2
theorem sp_t_bd {u : St2} {p x : Nat} {L : sp_Ls} (h : sp_t u p x L) : sp_bd L := by
  by_cases hx : x = 0
  · subst hx
    rw [sp_t_0 h]
    exact fun e he => absurd he List.not_mem_nil
  · obtain ⟨l, r, A, B, h1, _⟩ := sp_t_inv h hx
    exact h1.2.2.2.2.2.2
theorem sp_t_G {u : St2} {p x : Nat} {L : sp_Ls} (z : sp_Z u) (h : sp_t u p x L) : sp_G (sp_S u x) (sp_T u x) (sp_M u x) (sp_W u x) L := by
  by_cases hx : x = 0
  · subst hx
    rw [sp_t_0 h, z.1, z.2.1, z.2.2.1, z.2.2.2]
    exact sp_G_nil
  · obtain ⟨l, r, A, B, h1, _⟩ := sp_t_inv h hx
    exact h1.2.2.2.2.2.1
theorem sp_D_ids {u : St2} : ∀ (d p x : Nat) (L : sp_Ls), sp_D u d p x L → ∀ y, y ∈ sp_ids L → 0 < y ∧ y < 49 := by
  intro d
  induction d with
  | zero =>
    intro p x L h y hy
    rw [h.2] at hy
    exact absurd hy List.not_mem_nil
  | succ d ih =>
    intro p x L h y hy
    rcases h with h | ⟨l, r, A, B, h1, h2, h3⟩
    · rw [h.2] at hy
      exact absurd hy List.not_mem_nil
    · rcases (sp_N_ids h1 y).mp hy with g | g | g
      · exact ih _ _ _ h2 y g
      · rw [g]; exact h1.1
      · exact ih _ _ _ h3 y g
theorem sp_t_ids {u : St2} {p x : Nat} {L : sp_Ls} (h : sp_t u p x L) {y : Nat} (hy : y ∈ sp_ids L) : 0 < y ∧ y < 49 := by
  obtain ⟨d, h⟩ := h
  exact sp_D_ids d p x L h y hy
theorem sp_N_fr {u u' : St2} {p x l r : Nat} {A B L : sp_Ls} (h : sp_N u p x l r A B L) (e : sp_nd u' x = sp_nd u x) {q : Nat} (e2 : sp_U u' x = nI q) : sp_N u' q x l r A B L := by
  obtain ⟨e1, e3, e4, e5, e6, e7, e8, e9, e10, e11⟩ := sp_nd_i.mp e
  unfold sp_N at h ⊢
  rw [e2, e1, e3, e4, e5, e6, e7, e8, e9, e10, e11]
  exact ⟨h.1, rfl, h.2.2⟩
theorem sp_D_fr {u u' : St2} : ∀ (d p x : Nat) (L : sp_Ls), sp_D u d p x L → (∀ y, y ∈ sp_ids L → sp_nd u' y = sp_nd u y ∧ sp_U u' y = sp_U u y) → sp_D u' d p x L := by
  intro d
  induction d with
  | zero => intro p x L h _; exact h
  | succ d ih =>
    intro p x L h g
    rcases h with h | ⟨l, r, A, B, h1, h2, h3⟩
    · exact Or.inl h
    · have i := sp_N_ids h1
      have gx := g x ((i x).mpr (Or.inr (Or.inl rfl)))
      exact Or.inr ⟨l, r, A, B, sp_N_fr h1 gx.1 (gx.2.trans h1.2.1), ih _ _ _ h2 (fun y hy => g y ((i y).mpr (Or.inl hy))), ih _ _ _ h3 (fun y hy => g y ((i y).mpr (Or.inr (Or.inr hy))))⟩
theorem sp_t_fr0 {u u' : St2} {p x : Nat} {L : sp_Ls} (h : sp_t u p x L) (g : ∀ y, y ∈ sp_ids L → sp_nd u' y = sp_nd u y ∧ sp_U u' y = sp_U u y) : sp_t u' p x L := by
  obtain ⟨d, h⟩ := h
  exact ⟨d, sp_D_fr d p x L h g⟩
/-- the tree hangs elsewhere -/
theorem sp_t_mv {u u' : St2} {p q x : Nat} {L : sp_Ls} (h : sp_t u p x L) (hu : sp_un L) (g : ∀ y, y ∈ sp_ids L → sp_nd u' y = sp_nd u y) (g2 : ∀ y, y ∈ sp_ids L → y ≠ x → sp_U u' y = sp_U u y) (g3 : x ≠ 0 → sp_U u' x = nI q) : sp_t u' q x L := by
  by_cases hx : x = 0
  · subst hx
    rw [sp_t_0 h]
    exact sp_t_nil _ _
  · obtain ⟨l, r, A, B, h1, h2, h3⟩ := sp_t_inv h hx
    obtain ⟨_, _, n1, n2, _⟩ := sp_N_un h1 hu
    have i := sp_N_ids h1
    refine sp_t_node (sp_N_fr h1 (g x ((i x).mpr (Or.inr (Or.inl rfl)))) (g3 hx)) (sp_t_fr0 h2 (fun y hy => ?_)) (sp_t_fr0 h3 (fun y hy => ?_))
    · have m := (i y).mpr (Or.inl hy)
      exact ⟨g y m, g2 y m (fun e => n1 (e ▸ hy))⟩
    · have m := (i y).mpr (Or.inr (Or.inr hy))
      exact ⟨g y m, g2 y m (fun e => n2 (e ▸ hy))⟩
/-- outside X nothing changes -/
def sp_fr (u u' : St2) (X : sp_Ls) : Prop := ∀ y, y ≠ 0 → y ∉ sp_ids X → sp_nd u' y = sp_nd u y ∧ sp_U u' y = sp_U u y
/-- the plain fields are the same -/
def sp_ss (u u' : St2) : Prop := sp_row u' = sp_row u ∧ sp_clp u' = sp_clp u ∧ sp_bef u' = sp_bef u ∧ sp_mid u' = sp_mid u ∧ sp_beh u' = sp_beh u ∧ sp_us u' = sp_us u
theorem sp_fr_r (u : St2) (X : sp_Ls) : sp_fr u u X := fun _ _ _ => ⟨rfl, rfl⟩
theorem sp_fr_t {u v w : St2} {X : sp_Ls} (h : sp_fr u v X) (g : sp_fr v w X) : sp_fr u w X := fun y h0 h1 => ⟨(g y h0 h1).1.trans (h y h0 h1).1, (g y h0 h1).2.trans (h y h0 h1).2⟩
theorem sp_fr_m {u v : St2} {X Y : sp_Ls} (h : sp_fr u v X) (g : ∀ y, y ∈ sp_ids X → y ∈ sp_ids Y) : sp_fr u v Y := fun y h0 h1 => h y h0 (fun z => h1 (g y z))
theorem sp_ss_r (u : St2) : sp_ss u u := ⟨rfl, rfl, rfl, rfl, rfl, rfl⟩
theorem sp_ss_t {u v w : St2} (h : sp_ss u v) (g : sp_ss v w) : sp_ss u w :=
  ⟨g.1.trans h.1, g.2.1.trans h.2.1, g.2.2.1.trans h.2.2.1, g.2.2.2.1.trans h.2.2.2.1, g.2.2.2.2.1.trans h.2.2.2.2.1, g.2.2.2.2.2.trans h.2.2.2.2.2⟩
theorem sp_t_fr {u u' : St2} {p x : Nat} {L X : sp_Ls} (h : sp_t u p x L) (f : sp_fr u u' X) (g : ∀ y, y ∈ sp_ids L → y ∉ sp_ids X) : sp_t u' p x L :=
  sp_t_fr0 h (fun y hy => f y (by have := sp_t_ids h hy; omega) (g y hy))
end
section
theorem sp_wpull {post : St2 → Prop} {u : St2} {x l r : Nat} (hx : x < 49) (hl : l < 49) (hr : r < 49) (eL : sp_L u x = nI l) (eR : sp_R u x = nI r) (H : ∀ h7, post (sp_pl u x l r h7)) : wpX_pull post u (nI x) := by
  obtain ⟨w1, w2, w3, w4, w5, a1, a2, a3, a4, a5, a6, a7, a8, a9, a10, a11, a12, a13, a14, a15⟩ := u
  have cx : (nI x).toNatClampNeg = x := nI_clamp (by omega)
  have cl : (nI l).toNatClampNeg = l := nI_clamp (by omega)
  have cr : (nI r).toNatClampNeg = r := nI_clamp (by omega)
  have ix : vp_in (nI x) 49 := vp_in_nI hx (by decide)
  have il : vp_in (nI l) 49 := vp_in_nI hl (by decide)
  have ir : vp_in (nI r) 49 := vp_in_nI hr (by decide)
  replace eL : a1 x = nI l := eL
  replace eR : a2 x = nI r := eR
  have H' : ∀ m w h7, m = sp_mx (a4 x) (sp_mx (a8 l) (a8 r)) → w = sp_mn (a4 x) (sp_mn (a9 l) (a9 r)) → post (w1, w2, w3, w4, w5, a1, a2, a3, a4, upd a5 x (a5 l + 1 + a5 r), upd a6 x (a6 l + a4 x + a6 r), h7, upd a8 x m, upd a9 x w, a10, a11, a12, a13, a14, a15) := by
    rintro _ _ h7 rfl rfl
    exact H h7
  simp only [wpX_pull, wX_pull_131, wX_pull_160, wX_pull_191, cx, cl, cr, eL, eR, forall_eq, ix, il, ir, true_and]
  refine br_c (fun h1 => br_c (fun h2 => ?_) (fun h2 => ?_)) (fun h1 => br_c (fun h2 => ?_) (fun h2 => ?_)) <;> refine br_c (fun h3 => br_c (fun h4 => ?_) (fun h4 => ?_)) (fun h3 => br_c (fun h4 => ?_) (fun h4 => ?_)) <;> exact H' _ _ _ (by simp only [sp_mx, h1, h2, if_true, if_false]) (by simp only [sp_mn, h3, h4, if_true, if_false])
theorem sp_wturn {post : St2 → Prop} {u : St2} {x : Nat} (hx : x < 49) (H0 : x = 0 → post u) (H : x ≠ 0 → ∀ h7, post (sp_tu u x h7)) : wpX_turnAll post u (nI x) := by
  obtain ⟨w1, w2, w3, w4, w5, a1, a2, a3, a4, a5, a6, a7, a8, a9, a10, a11, a12, a13, a14, a15⟩ := u
  have cx : (nI x).toNatClampNeg = x := nI_clamp (by omega)
  have ix : vp_in (nI x) 49 := vp_in_nI hx (by decide)
  simp only [wpX_turnAll, cx, forall_eq, ix, true_and]
  refine pk_eq x 0 (fun e => H0 e) (fun e => ?_)
  have H' : ∀ m h7, m = (if a10 x = 0 then 1 else 0) → post (w1, w2, w3, w4, w5, upd a1 x (a2 x), upd a2 x (a1 x), a3, a4, a5, a6, h7, a8, a9, upd a10 x m, a11, a12, a13, a14, a15) := by
    rintro _ h7 rfl
    exact H e h7
  refine br_c (fun h1 => ?_) (fun h1 => ?_) <;> exact H' _ _ (by simp only [h1, if_true, if_false])
theorem sp_wneg {post : St2 → Prop} {u : St2} {x : Nat} (hx : x < 49) (H0 : x = 0 → post u) (H : x ≠ 0 → ∀ h7, post (sp_nu u x h7)) : wpX_negateAll post u (nI x) := by
  obtain ⟨w1, w2, w3, w4, w5, a1, a2, a3, a4, a5, a6, a7, a8, a9, a10, a11, a12, a13, a14, a15⟩ := u
  have cx : (nI x).toNatClampNeg = x := nI_clamp (by omega)
  have ix : vp_in (nI x) 49 := vp_in_nI hx (by decide)
  simp only [wpX_negateAll, cx, forall_eq, ix, true_and]
  refine pk_eq x 0 (fun e => H0 e) (fun e => ?_)
  have H' : ∀ m h7, m = (if a11 x = 0 then 1 else 0) → post (w1, w2, w3, w4, w5, a1, a2, a3, upd a4 x (-a4 x), a5, upd a6 x (-a6 x), h7, upd a8 x (-a9 x), upd a9 x (-a8 x), a10, upd a11 x m, upd a12 x (-a12 x), a13, a14, a15) := by
    rintro _ h7 rfl
    exact H e h7
  refine br_c (fun h1 => ?_) (fun h1 => ?_) <;> exact H' _ _ (by simp only [h1, if_true, if_false])
theorem sp_wadd {post : St2 → Prop} {u : St2} {x : Nat} {d : Int32} (hx : x < 49) (H0 : x = 0 → post u) (H : x ≠ 0 → ∀ h7, post (sp_au u x d h7)) : wpX_addAll post u (nI x) d := by
  obtain ⟨w1, w2, w3, w4, w5, a1, a2, a3, a4, a5, a6, a7, a8, a9, a10, a11, a12, a13, a14, a15⟩ := u
  have cx : (nI x).toNatClampNeg = x := nI_clamp (by omega)
  have ix : vp_in (nI x) 49 := vp_in_nI hx (by decide)
  have c2 : ¬ (2 : Int32) = 0 := by decide
  simp only [wpX_addAll, cx, forall_eq, ix, true_and, c2, not_false_eq_true]
  exact pk_eq x 0 (fun e => H0 e) (fun e => H e _)
/-- what a change of x alone keeps -/
def sp_on (u u' : St2) (X : sp_Ls) : Prop := (∀ y, y ∉ sp_ids X → sp_nd u' y = sp_nd u y) ∧ sp_U u' = sp_U u ∧ sp_ss u u'
theorem sp_on_r (u : St2) (X : sp_Ls) : sp_on u u X := ⟨fun _ _ => rfl, rfl, sp_ss_r u⟩
theorem sp_on_t {u v w : St2} {X : sp_Ls} (h : sp_on u v X) (g : sp_on v w X) : sp_on u w X := ⟨fun y hy => (g.1 y hy).trans (h.1 y hy), g.2.1.trans h.2.1, sp_ss_t h.2.2 g.2.2⟩
theorem sp_on_m {u v : St2} {X Y : sp_Ls} (h : sp_on u v X) (g : ∀ y, y ∈ sp_ids X → y ∈ sp_ids Y) : sp_on u v Y := ⟨fun y hy => h.1 y (fun z => hy (g y z)), h.2⟩
theorem sp_on_fr {u v : St2} {X : sp_Ls} (h : sp_on u v X) : sp_fr u v X := fun y _ hy => ⟨h.1 y hy, by rw [h.2.1]⟩
theorem sp_t_on {u u' : St2} {p x : Nat} {L X : sp_Ls} (h : sp_t u p x L) (f : sp_on u u' X) (g : ∀ y, y ∈ sp_ids L → y ∉ sp_ids X) : sp_t u' p x L := sp_t_fr h (sp_on_fr f) g
theorem sp_Z_nd {u u' : St2} (z : sp_Z u) (h : sp_nd u' 0 = sp_nd u 0) : sp_Z u' := by
  obtain ⟨e1, e3, e4, e5, e6, e7, e8, e9, e10, e11⟩ := sp_nd_i.mp h
  unfold sp_Z
  rw [e5, e6, e7, e8]
  exact z
/-- the node x of a tree is changed, the subtrees not -/
theorem sp_t_one {u u' : St2} {p x l r l' r' : Nat} {A B A' B' L L' : sp_Ls} (hN : sp_N u p x l r A B L) (hu : sp_un L) (ha : sp_t u x l A) (hb : sp_t u x r B) (g : ∀ y, y ≠ x → sp_nd u' y = sp_nd u y) (g2 : sp_U u' = sp_U u) (hN' : sp_N u' p x l' r' A' B' L') (hs : (l' = l ∧ A' = A ∧ r' = r ∧ B' = B) ∨ (l' = r ∧ A' = B ∧ r' = l ∧ B' = A)) : sp_t u' p x L' := by
  obtain ⟨_, _, n1, n2, _⟩ := sp_N_un hN hu
  have ta : sp_t u' x l A := sp_t_fr0 ha (fun y hy => ⟨g y (fun e => n1 (e ▸ hy)), by rw [g2]⟩)
  have tb : sp_t u' x r B := sp_t_fr0 hb (fun y hy => ⟨g y (fun e => n2 (e ▸ hy)), by rw [g2]⟩)
  rcases hs with ⟨rfl, rfl, rfl, rfl⟩ | ⟨rfl, rfl, rfl, rfl⟩
  · exact sp_t_node hN' ta tb
  · exact sp_t_node hN' tb ta
theorem sp_tu_nd (u : St2) (x : Nat) (h7 : Nat → Int32) {y : Nat} (hy : y ≠ x) : sp_nd (sp_tu u x h7) y = sp_nd u y := by
  simp only [sp_nd, sp_tu, sp_L, sp_R, sp_V, sp_S, sp_T, sp_M, sp_W, sp_tn, sp_mi, sp_ad, upd, if_neg hy]
theorem sp_nu_nd (u : St2) (x : Nat) (h7 : Nat → Int32) {y : Nat} (hy : y ≠ x) : sp_nd (sp_nu u x h7) y = sp_nd u y := by
  simp only [sp_nd, sp_nu, sp_L, sp_R, sp_V, sp_S, sp_T, sp_M, sp_W, sp_tn, sp_mi, sp_ad, upd, if_neg hy]
theorem sp_au_nd (u : St2) (x : Nat) (d : Int32) (h7 : Nat → Int32) {y : Nat} (hy : y ≠ x) : sp_nd (sp_au u x d h7) y = sp_nd u y := by
  simp only [sp_nd, sp_au, sp_L, sp_R, sp_V, sp_S, sp_T, sp_M, sp_W, sp_tn, sp_mi, sp_ad, upd, if_neg hy]
theorem sp_stn_nd (u : St2) (x : Nat)  {y : Nat} (hy : y ≠ x) : sp_nd (sp_stn u x ) y = sp_nd u y := by
  simp only [sp_nd, sp_stn, sp_L, sp_R, sp_V, sp_S, sp_T, sp_M, sp_W, sp_tn, sp_mi, sp_ad, upd, if_neg hy]
theorem sp_smi_nd (u : St2) (x : Nat)  {y : Nat} (hy : y ≠ x) : sp_nd (sp_smi u x ) y = sp_nd u y := by
  simp only [sp_nd, sp_smi, sp_L, sp_R, sp_V, sp_S, sp_T, sp_M, sp_W, sp_tn, sp_mi, sp_ad, upd, if_neg hy]
theorem sp_sad_nd (u : St2) (x : Nat)  {y : Nat} (hy : y ≠ x) : sp_nd (sp_sad u x ) y = sp_nd u y := by
  simp only [sp_nd, sp_sad, sp_L, sp_R, sp_V, sp_S, sp_T, sp_M, sp_W, sp_tn, sp_mi, sp_ad, upd, if_neg hy]
theorem sp_pl_nd (u : St2) (x l r : Nat) (h7 : Nat → Int32) {y : Nat} (hy : y ≠ x) : sp_nd (sp_pl u x l r h7) y = sp_nd u y := by
  simp only [sp_nd, sp_pl, sp_L, sp_R, sp_V, sp_S, sp_T, sp_M, sp_W, sp_tn, sp_mi, sp_ad, upd, if_neg hy]
theorem sp_turn_ok {post : St2 → Prop} {u : St2} {p x : Nat} {A : sp_Ls} (h : sp_t u p x A) (hu : sp_un A) (H : ∀ u', sp_t u' p x A.reverse → sp_on u u' A → post u') : wpX_turnAll post u (nI x) := by
  refine sp_wturn (sp_t_lt h) (fun e => ?_) (fun e h7 => ?_)
  · subst e
    have e2 := sp_t_0 h
    subst e2
    exact H u h (sp_on_r u _)
  · obtain ⟨l, r, B, C, h1, h2, h3⟩ := sp_t_inv h e
    refine H _ ?_ ⟨fun y hy => sp_tu_nd u x h7 (fun z => hy (z ▸ sp_t_mem h e)), rfl, sp_ss_r u⟩
    refine sp_t_one h1 hu h2 h3 (fun y hy => sp_tu_nd u x h7 hy) rfl (l' := r) (r' := l) (A' := C) (B' := B) ?_ (Or.inr ⟨rfl, rfl, rfl, rfl⟩)
    obtain ⟨k1, k2, k3, k4, k5, k6, k7⟩ := h1
    have e1 : sp_L (sp_tu u x h7) x = sp_R u x := pk_us
    have e2 : sp_R (sp_tu u x h7) x = sp_L u x := pk_us
    have e3 : sp_tn (sp_tu u x h7) x = (if sp_tn u x = 0 then 1 else 0) := pk_us
    refine ⟨k1, k2, e1.trans k4, e2.trans k3, ?_, sp_G_rev k6, sp_bd_rev k7⟩
    rw [e3]
    show A.reverse = sp_F (if sp_tn u x = 0 then 1 else 0) (sp_mi u x) (sp_ad u x) C ++ (x, sp_V u x) :: sp_F (if sp_tn u x = 0 then 1 else 0) (sp_mi u x) (sp_ad u x) B
    rw [sp_F_flip, sp_F_flip, k5]
    simp
theorem sp_neg_ok {post : St2 → Prop} {u : St2} {p x : Nat} {A : sp_Ls} (h : sp_t u p x A) (hu : sp_un A) (H : ∀ u', sp_t u' p x (A.map sp_ng) → sp_on u u' A → post u') : wpX_negateAll post u (nI x) := by
  refine sp_wneg (sp_t_lt h) (fun e => ?_) (fun e h7 => ?_)
  · subst e
    have e2 := sp_t_0 h
    subst e2
    exact H u h (sp_on_r u _)
  · obtain ⟨l, r, B, C, h1, h2, h3⟩ := sp_t_inv h e
    refine H _ ?_ ⟨fun y hy => sp_nu_nd u x h7 (fun z => hy (z ▸ sp_t_mem h e)), rfl, sp_ss_r u⟩
    refine sp_t_one h1 hu h2 h3 (fun y hy => sp_nu_nd u x h7 hy) rfl (l' := l) (r' := r) (A' := B) (B' := C) ?_ (Or.inl ⟨rfl, rfl, rfl, rfl⟩)
    have hn := sp_N_nn h1
    obtain ⟨k1, k2, k3, k4, k5, k6, k7⟩ := h1
    have e1 : sp_V (sp_nu u x h7) x = -sp_V u x := pk_us
    have e2 : sp_T (sp_nu u x h7) x = -sp_T u x := pk_us
    have e3 : sp_mi (sp_nu u x h7) x = (if sp_mi u x = 0 then 1 else 0) := pk_us
    have e4 : sp_ad (sp_nu u x h7) x = -sp_ad u x := pk_us
    have e5 : sp_M (sp_nu u x h7) x = -sp_W u x := pk_us
    have e6 : sp_W (sp_nu u x h7) x = -sp_M u x := pk_us
    refine ⟨k1, k2, k3, k4, ?_, ?_, sp_bd_ng k7⟩
    · rw [e1, e3, e4]
      show A.map sp_ng = sp_F (sp_tn u x) (if sp_mi u x = 0 then 1 else 0) (-sp_ad u x) B ++ (x, -sp_V u x) :: sp_F (sp_tn u x) (if sp_mi u x = 0 then 1 else 0) (-sp_ad u x) C
      rw [sp_F_ng, sp_F_ng, k5, List.map_append, List.map_cons]
      rfl
    · rw [e2, e5, e6]
      exact sp_G_ng k7 hn k6
theorem sp_add_ok {post : St2 → Prop} {u : St2} {p x : Nat} {A : sp_Ls} {d : Int32} (h : sp_t u p x A) (hu : sp_un A) (hb : sp_bd (A.map (sp_up d))) (H : ∀ u', sp_t u' p x (A.map (sp_up d)) → sp_on u u' A → post u') : wpX_addAll post u (nI x) d := by
  refine sp_wadd (sp_t_lt h) (fun e => ?_) (fun e h7 => ?_)
  · subst e
    have e2 := sp_t_0 h
    subst e2
    exact H u h (sp_on_r u _)
  · obtain ⟨l, r, B, C, h1, h2, h3⟩ := sp_t_inv h e
    refine H _ ?_ ⟨fun y hy => sp_au_nd u x d h7 (fun z => hy (z ▸ sp_t_mem h e)), rfl, sp_ss_r u⟩
    refine sp_t_one h1 hu h2 h3 (fun y hy => sp_au_nd u x d h7 hy) rfl (l' := l) (r' := r) (A' := B) (B' := C) ?_ (Or.inl ⟨rfl, rfl, rfl, rfl⟩)
    have hn := sp_N_nn h1
    obtain ⟨k1, k2, k3, k4, k5, k6, k7⟩ := h1
    have e1 : sp_V (sp_au u x d h7) x = sp_V u x + d := pk_us
    have e2 : sp_T (sp_au u x d h7) x = sp_T u x + d * sp_S u x := pk_us
    have e4 : sp_ad (sp_au u x d h7) x = sp_ad u x + d := pk_us
    have e5 : sp_M (sp_au u x d h7) x = sp_M u x + d := pk_us
    have e6 : sp_W (sp_au u x d h7) x = sp_W u x + d := pk_us
    refine ⟨k1, k2, k3, k4, ?_, ?_, hb⟩
    · rw [e1, e4]
      show A.map (sp_up d) = sp_F (sp_tn u x) (sp_mi u x) (sp_ad u x + d) B ++ (x, sp_V u x + d) :: sp_F (sp_tn u x) (sp_mi u x) (sp_ad u x + d) C
      rw [sp_F_up, sp_F_up, k5, List.map_append, List.map_cons]
      rfl
    · rw [e2, e5, e6]
      exact sp_G_up k7 hb hn k6
end
section
theorem sp_N_chg {u u' : St2} {p x l r : Nat} {A B A' B' H : sp_Ls} (h : sp_N u p x l r A B H) (eU : sp_U u' x = sp_U u x) (eL : sp_L u' x = sp_L u x) (eR : sp_R u' x = sp_R u x) (eV : sp_V u' x = sp_V u x) (eS : sp_S u' x = sp_S u x) (eT : sp_T u' x = sp_T u x) (eM : sp_M u' x = sp_M u x) (eW : sp_W u' x = sp_W u x) (hA : sp_F (sp_tn u' x) (sp_mi u' x) (sp_ad u' x) A' = sp_F (sp_tn u x) (sp_mi u x) (sp_ad u x) A) (hB : sp_F (sp_tn u' x) (sp_mi u' x) (sp_ad u' x) B' = sp_F (sp_tn u x) (sp_mi u x) (sp_ad u x) B) : sp_N u' p x l r A' B' H := by
  unfold sp_N at h ⊢
  rw [eU, eL, eR, eV, eS, eT, eM, eW, hA, hB]
  exact h
theorem sp_pl_ok {u : St2} {p x l r : Nat} {A B : sp_Ls} (h7 : Nat → Int32) (z : sp_Z u) (hx : 0 < x ∧ x < 49) (eU : sp_U u x = nI p) (eL : sp_L u x = nI l) (eR : sp_R u x = nI r) (f1 : sp_tn u x = 0) (f2 : sp_mi u x = 0) (f3 : sp_ad u x = 0) (bv : sp_bv (sp_V u x)) (ha : sp_t u x l A) (hb : sp_t u x r B) (nA : x ∉ sp_ids A) (nB : x ∉ sp_ids B) :
    sp_N (sp_pl u x l r h7) p x l r A B (A ++ (x, sp_V u x) :: B) ∧ sp_t (sp_pl u x l r h7) x l A ∧ sp_t (sp_pl u x l r h7) x r B := by
  have ga := sp_t_G z ha
  have gb := sp_t_G z hb
  have e1 : sp_S (sp_pl u x l r h7) x = _ := pk_us
  have e2 : sp_T (sp_pl u x l r h7) x = _ := pk_us
  have e3 : sp_M (sp_pl u x l r h7) x = _ := pk_us
  have e4 : sp_W (sp_pl u x l r h7) x = _ := pk_us
  refine ⟨⟨hx, eU, eL, eR, ?_, ?_, ?_⟩, sp_t_fr0 ha (fun y hy => ⟨sp_pl_nd u x l r h7 (fun e => nA (e ▸ hy)), rfl⟩), sp_t_fr0 hb (fun y hy => ⟨sp_pl_nd u x l r h7 (fun e => nB (e ▸ hy)), rfl⟩)⟩
  · show A ++ (x, sp_V u x) :: B = sp_F (sp_tn u x) (sp_mi u x) (sp_ad u x) A ++ (x, sp_V u x) :: sp_F (sp_tn u x) (sp_mi u x) (sp_ad u x) B
    rw [f1, f2, f3, sp_F_0, sp_F_0]
  · rw [e1, e2, e3, e4]
    exact sp_G_node x bv ga gb
  · rw [sp_bd_app, sp_bd_cons]
    exact ⟨sp_t_bd ha, bv, sp_t_bd hb⟩
theorem sp_p66 {post : St2 → Prop} {u : St2} {p x l r : Nat} {A B H : sp_Ls} (hN : sp_N u p x l r A B H) (hu : sp_un H) (ha : sp_t u x l A) (hb : sp_t u x r B) (h1 : sp_tn u x = 0) (h2 : sp_mi u x = 0) (K : ∀ u' A' B', sp_N u' p x l r A' B' H → sp_t u' x l A' → sp_t u' x r B' → sp_tn u' x = 0 → sp_mi u' x = 0 → sp_ad u' x = 0 → sp_on u u' H → post u') : wX_push_66 post (nI x) (nI l) (nI r) (sp_row u) (sp_clp u) (sp_bef u) (sp_mid u) (sp_beh u) (sp_L u) (sp_R u) (sp_U u) (sp_V u) (sp_S u) (sp_T u) (sp_H u) (sp_M u) (sp_W u) (sp_tn u) (sp_mi u) (sp_ad u) (sp_us u) (sp_st u) (sp_cp u) := by
  have cx : (nI x).toNatClampNeg = x := nI_clamp (by have := hN.1; omega)
  have ix : vp_in (nI x) 49 := vp_in_nI hN.1.2 (by decide)
  obtain ⟨un1, un2, n1, n2, dj⟩ := sp_N_un hN hu
  have bb := hN.2.2.2.2.2.2
  rw [hN.2.2.2.2.1, h1, h2, sp_F_d, sp_F_d, sp_bd_app, sp_bd_cons] at bb
  unfold wX_push_66
  rw [cx]
  refine ⟨ix, br_c (fun e => ?_) (fun e => ⟨ix, ?_⟩)⟩
  · exact K u A B hN ha hb h1 h2 e (sp_on_r u _)
  ·
    refine sp_add_ok (u := u) (p := x) ha un1 bb.1 (fun u1 t1 o1 => ?_)
    have d1 := sp_nd_i.mp (o1.1 x n1)
    have tb1 := sp_t_on hb o1 (fun y hy hy2 => dj y hy2 hy)
    show vp_in (nI x) 49 ∧ wpX_addAll _ u1 (nI r) (sp_ad u1 x)
    rw [d1.2.2.2.2.2.2.2.2.2]
    refine ⟨ix, ?_⟩
    refine sp_add_ok (u := u1) (p := x) tb1 un2 bb.2.2 (fun u2 t2 o2 => ?_)
    have d2 := sp_nd_i.mp (o2.1 x n2)
    have ta2 := sp_t_on t1 o2 (fun y hy => dj y (by rw [sp_ids_up] at hy; exact hy))
    have i := sp_N_ids hN
    have o3 : sp_on u (sp_sad u2 x) H := by
      refine sp_on_t (sp_on_m o1 (fun y hy => (i y).mpr (Or.inl hy))) (sp_on_t (sp_on_m o2 (fun y hy => (i y).mpr (Or.inr (Or.inr hy)))) ?_)
      exact ⟨fun y hy => sp_sad_nd u2 x (fun e => hy ((i y).mpr (Or.inr (Or.inl e)))), rfl, sp_ss_r _⟩
    have ta3 : sp_t (sp_sad u2 x) x l (A.map (sp_up (sp_ad u x))) := sp_t_fr0 ta2 (fun y hy => ⟨sp_sad_nd u2 x (fun e => n1 (by rw [sp_ids_up] at hy; exact e ▸ hy)), rfl⟩)
    have tb3 : sp_t (sp_sad u2 x) x r (B.map (sp_up (sp_ad u x))) := sp_t_fr0 t2 (fun y hy => ⟨sp_sad_nd u2 x (fun e => n2 (by rw [sp_ids_up] at hy; exact e ▸ hy)), rfl⟩)
    have f0 : sp_ad (sp_sad u2 x) x = 0 := pk_us
    obtain ⟨p1, p2, p3, p4, p5, p6, p7, p8, p9, p10⟩ := d1
    obtain ⟨q1, q2, q3, q4, q5, q6, q7, q8, q9, q10⟩ := d2
    have g8 : sp_tn u2 x = sp_tn u x := q8.trans p8
    have g9 : sp_mi u2 x = sp_mi u x := q9.trans p9
    have g10 : sp_ad u2 x = sp_ad u x := q10.trans p10
    have hN3 : sp_N (sp_sad u2 x) p x l r (A.map (sp_up (sp_ad u x))) (B.map (sp_up (sp_ad u x))) H := by
      refine sp_N_chg hN (by show sp_U u2 x = _; rw [o2.2.1, o1.2.1]) (q1.trans p1) (q2.trans p2) (q3.trans p3) (q4.trans p4) (q5.trans p5) (q6.trans p6) (q7.trans p7) ?_ ?_
      · rw [f0]
        show sp_F (sp_tn u2 x) (sp_mi u2 x) 0 _ = _
        rw [g8, g9, h1, h2, sp_F_0, sp_F_d]
      · rw [f0]
        show sp_F (sp_tn u2 x) (sp_mi u2 x) 0 _ = _
        rw [g8, g9, h1, h2, sp_F_0, sp_F_d]
    show vp_in (nI x) 49 ∧ ∀ a, a = upd (sp_ad u2) x 0 → _
    refine ⟨ix, ?_⟩
    rintro _ rfl
    exact K (sp_sad u2 x) _ _ hN3 ta3 tb3 (g8.trans h1) (g9.trans h2) f0 o3
theorem sp_p40 {post : St2 → Prop} {u : St2} {p x l r : Nat} {A B H : sp_Ls} (hN : sp_N u p x l r A B H) (hu : sp_un H) (ha : sp_t u x l A) (hb : sp_t u x r B) (h1 : sp_tn u x = 0) (K : ∀ u' A' B', sp_N u' p x l r A' B' H → sp_t u' x l A' → sp_t u' x r B' → sp_tn u' x = 0 → sp_mi u' x = 0 → sp_ad u' x = 0 → sp_on u u' H → post u') : wX_push_40 post (nI x) (nI l) (nI r) (sp_row u) (sp_clp u) (sp_bef u) (sp_mid u) (sp_beh u) (sp_L u) (sp_R u) (sp_U u) (sp_V u) (sp_S u) (sp_T u) (sp_H u) (sp_M u) (sp_W u) (sp_tn u) (sp_mi u) (sp_ad u) (sp_us u) (sp_st u) (sp_cp u) := by
  have cx : (nI x).toNatClampNeg = x := nI_clamp (by have := hN.1; omega)
  have ix : vp_in (nI x) 49 := vp_in_nI hN.1.2 (by decide)
  obtain ⟨un1, un2, n1, n2, dj⟩ := sp_N_un hN hu
  unfold wX_push_40
  rw [cx]
  refine ⟨ix, br_c (fun e => ?_) (fun e => ?_)⟩
  · exact sp_p66 hN hu ha hb h1 e K
  ·
    refine sp_neg_ok (u := u) (p := x) ha un1 (fun u1 t1 o1 => ?_)
    have d1 := sp_nd_i.mp (o1.1 x n1)
    have tb1 := sp_t_on hb o1 (fun y hy hy2 => dj y hy2 hy)
    show wpX_negateAll _ u1 (nI r)
    refine sp_neg_ok (u := u1) (p := x) tb1 un2 (fun u2 t2 o2 => ?_)
    have d2 := sp_nd_i.mp (o2.1 x n2)
    have ta2 := sp_t_on t1 o2 (fun y hy => dj y (by rw [sp_ids_ng] at hy; exact hy))
    have i := sp_N_ids hN
    have o3 : sp_on u (sp_smi u2 x) H := by
      refine sp_on_t (sp_on_m o1 (fun y hy => (i y).mpr (Or.inl hy))) (sp_on_t (sp_on_m o2 (fun y hy => (i y).mpr (Or.inr (Or.inr hy)))) ?_)
      exact ⟨fun y hy => sp_smi_nd u2 x (fun e => hy ((i y).mpr (Or.inr (Or.inl e)))), rfl, sp_ss_r _⟩
    have ta3 : sp_t (sp_smi u2 x) x l (A.map sp_ng) := sp_t_fr0 ta2 (fun y hy => ⟨sp_smi_nd u2 x (fun e => n1 (by rw [sp_ids_ng] at hy; exact e ▸ hy)), rfl⟩)
    have tb3 : sp_t (sp_smi u2 x) x r (B.map sp_ng) := sp_t_fr0 t2 (fun y hy => ⟨sp_smi_nd u2 x (fun e => n2 (by rw [sp_ids_ng] at hy; exact e ▸ hy)), rfl⟩)
    have f0 : sp_mi (sp_smi u2 x) x = 0 := pk_us
    obtain ⟨p1, p2, p3, p4, p5, p6, p7, p8, p9, p10⟩ := d1
    obtain ⟨q1, q2, q3, q4, q5, q6, q7, q8, q9, q10⟩ := d2
    have g8 : sp_tn u2 x = sp_tn u x := q8.trans p8
    have g9 : sp_mi u2 x = sp_mi u x := q9.trans p9
    have g10 : sp_ad u2 x = sp_ad u x := q10.trans p10
    have hN3 : sp_N (sp_smi u2 x) p x l r (A.map sp_ng) (B.map sp_ng) H := by
      refine sp_N_chg hN (by show sp_U u2 x = _; rw [o2.2.1, o1.2.1]) (q1.trans p1) (q2.trans p2) (q3.trans p3) (q4.trans p4) (q5.trans p5) (q6.trans p6) (q7.trans p7) ?_ ?_
      · rw [f0]
        show sp_F (sp_tn u2 x) 0 (sp_ad u2 x) _ = _
        rw [g8, g10, h1, sp_F_m (show ¬ sp_mi u x = 0 from e)]
      · rw [f0]
        show sp_F (sp_tn u2 x) 0 (sp_ad u2 x) _ = _
        rw [g8, g10, h1, sp_F_m (show ¬ sp_mi u x = 0 from e)]
    show vp_in (nI x) 49 ∧ ∀ a, a = upd (sp_mi u2) x 0 → _
    refine ⟨ix, ?_⟩
    rintro _ rfl
    exact sp_p66 (u := sp_smi u2 x) hN3 hu ta3 tb3 (g8.trans h1) f0 (fun u' A' B' k1 k2 k3 k4 k5 k6 k7 => K u' A' B' k1 k2 k3 k4 k5 k6 (sp_on_t o3 k7))
theorem sp_push_ok {post : St2 → Prop} {u : St2} {p x : Nat} {H : sp_Ls} (h : sp_t u p x H) (hx : x ≠ 0) (hu : sp_un H) (K : ∀ u' l r A' B', sp_N u' p x l r A' B' H → sp_t u' x l A' → sp_t u' x r B' → sp_tn u' x = 0 → sp_mi u' x = 0 → sp_ad u' x = 0 → sp_on u u' H → post u') : wpX_push post u (nI x) := by
  obtain ⟨l, r, A, B, hN, ha, hb⟩ := sp_t_inv h hx
  have cx : (nI x).toNatClampNeg = x := nI_clamp (by have := hN.1; omega)
  have ix : vp_in (nI x) 49 := vp_in_nI hN.1.2 (by decide)
  obtain ⟨un1, un2, n1, n2, dj⟩ := sp_N_un hN hu
  unfold wpX_push
  rw [cx]
  refine ⟨ix, nm_r (e' := nI l) hN.2.2.1 ⟨ix, nm_r (e' := nI r) hN.2.2.2.1 ⟨ix, br_c (fun e => ?_) (fun e => ?_)⟩⟩⟩
  · exact sp_p40 hN hu ha hb e (fun u' => K u' l r)
  ·
    refine sp_turn_ok (u := u) (p := x) ha un1 (fun u1 t1 o1 => ?_)
    have d1 := sp_nd_i.mp (o1.1 x n1)
    have tb1 := sp_t_on hb o1 (fun y hy hy2 => dj y hy2 hy)
    show wpX_turnAll _ u1 (nI r)
    refine sp_turn_ok (u := u1) (p := x) tb1 un2 (fun u2 t2 o2 => ?_)
    have d2 := sp_nd_i.mp (o2.1 x n2)
    have ta2 := sp_t_on t1 o2 (fun y hy => dj y (by rw [sp_ids_rev] at hy; exact List.mem_reverse.mp hy))
    have i := sp_N_ids hN
    have o3 : sp_on u (sp_stn u2 x) H := by
      refine sp_on_t (sp_on_m o1 (fun y hy => (i y).mpr (Or.inl hy))) (sp_on_t (sp_on_m o2 (fun y hy => (i y).mpr (Or.inr (Or.inr hy)))) ?_)
      exact ⟨fun y hy => sp_stn_nd u2 x (fun e => hy ((i y).mpr (Or.inr (Or.inl e)))), rfl, sp_ss_r _⟩
    have ta3 : sp_t (sp_stn u2 x) x l A.reverse := sp_t_fr0 ta2 (fun y hy => ⟨sp_stn_nd u2 x (fun e => n1 (by rw [sp_ids_rev] at hy; exact e ▸ List.mem_reverse.mp hy)), rfl⟩)
    have tb3 : sp_t (sp_stn u2 x) x r B.reverse := sp_t_fr0 t2 (fun y hy => ⟨sp_stn_nd u2 x (fun e => n2 (by rw [sp_ids_rev] at hy; exact e ▸ List.mem_reverse.mp hy)), rfl⟩)
    have f0 : sp_tn (sp_stn u2 x) x = 0 := pk_us
    obtain ⟨p1, p2, p3, p4, p5, p6, p7, p8, p9, p10⟩ := d1
    obtain ⟨q1, q2, q3, q4, q5, q6, q7, q8, q9, q10⟩ := d2
    have g8 : sp_tn u2 x = sp_tn u x := q8.trans p8
    have g9 : sp_mi u2 x = sp_mi u x := q9.trans p9
    have g10 : sp_ad u2 x = sp_ad u x := q10.trans p10
    have hN3 : sp_N (sp_stn u2 x) p x l r A.reverse B.reverse H := by
      refine sp_N_chg hN (by show sp_U u2 x = _; rw [o2.2.1, o1.2.1]) (q1.trans p1) (q2.trans p2) (q3.trans p3) (q4.trans p4) (q5.trans p5) (q6.trans p6) (q7.trans p7) ?_ ?_
      · rw [f0]
        show sp_F 0 (sp_mi u2 x) (sp_ad u2 x) _ = _
        rw [g9, g10, sp_F_t (show ¬ sp_tn u x = 0 from e)]
      · rw [f0]
        show sp_F 0 (sp_mi u2 x) (sp_ad u2 x) _ = _
        rw [g9, g10, sp_F_t (show ¬ sp_tn u x = 0 from e)]
    show vp_in (nI x) 49 ∧ ∀ a, a = upd (sp_tn u2) x 0 → _
    refine ⟨ix, ?_⟩
    rintro _ rfl
    exact sp_p40 (u := sp_stn u2 x) hN3 hu ta3 tb3 f0 (fun u' A' B' k1 k2 k3 k4 k5 k6 k7 => K u' l r A' B' k1 k2 k3 k4 k5 k6 (sp_on_t o3 k7))
end
section
/-- the way up from the hole h, which hangs under q and holds H: n nodes without marks; the whole holds W -/
def sp_C (u : St2) : Nat → Nat → Nat → sp_Ls → sp_Ls → Prop
  | 0 => fun q _ H W => q = 0 ∧ W = H
  | n + 1 => fun q h H W => (sp_tn u q = 0 ∧ sp_mi u q = 0 ∧ sp_ad u q = 0) ∧ ∃ k,
      ((∃ r B, sp_N u k q h r H B (H ++ (q, sp_V u q) :: B) ∧ sp_t u q r B ∧ sp_C u n k q (H ++ (q, sp_V u q) :: B) W) ∨
       (∃ l A, sp_N u k q l h A H (A ++ (q, sp_V u q) :: H) ∧ sp_t u q l A ∧ sp_C u n k q (A ++ (q, sp_V u q) :: H) W))
theorem sp_C_sub {u : St2} : ∀ (n q h : Nat) (H W : sp_Ls), sp_C u n q h H W → ∃ X Y, W = X ++ H ++ Y ∧ n ≤ X.length + Y.length := by
  intro n
  induction n with
  | zero =>
    intro q h H W c
    exact ⟨[], [], by rw [c.2]; simp, Nat.zero_le _⟩
  | succ n ih =>
    intro q h H W c
    obtain ⟨_, k, ⟨r, B, _, _, c⟩ | ⟨l, A, _, _, c⟩⟩ := c
    · obtain ⟨X, Y, e, g⟩ := ih _ _ _ _ c
      exact ⟨X, (q, sp_V u q) :: B ++ Y, by rw [e]; simp, by rw [List.length_append, List.length_cons]; omega⟩
    · obtain ⟨X, Y, e, g⟩ := ih _ _ _ _ c
      exact ⟨X ++ A ++ [(q, sp_V u q)], Y, by rw [e]; simp, by simp only [List.length_append, List.length_cons, List.length_nil]; omega⟩
theorem sp_C_un {u : St2} {n q h : Nat} {H W : sp_Ls} (c : sp_C u n q h H W) (hu : sp_un W) : sp_un H := by
  obtain ⟨X, Y, e, _⟩ := sp_C_sub n q h H W c
  rw [e, sp_un_app, sp_un_app] at hu
  exact hu.1.2.1
theorem sp_C_in {u : St2} {n q h : Nat} {H W : sp_Ls} (c : sp_C u n q h H W) {y : Nat} (hy : y ∈ sp_ids H) : y ∈ sp_ids W := by
  obtain ⟨X, Y, e, _⟩ := sp_C_sub n q h H W c
  rw [e, sp_ids_app, sp_ids_app]
  exact List.mem_append.mpr (Or.inl (List.mem_append.mpr (Or.inr hy)))
theorem sp_C_len {u : St2} {n q h : Nat} {H W : sp_Ls} (c : sp_C u n q h H W) : n + H.length ≤ W.length := by
  obtain ⟨X, Y, e, g⟩ := sp_C_sub n q h H W c
  rw [e, List.length_append, List.length_append]
  omega
theorem sp_ids_mid {A B : sp_Ls} {x : Nat} {v : Int32} (y : Nat) : y ∈ sp_ids (A ++ (x, v) :: B) ↔ y ∈ sp_ids A ∨ y = x ∨ y ∈ sp_ids B := by
  rw [sp_ids_app, sp_ids_cons, List.mem_append, List.mem_cons]
theorem sp_un_mid {A B : sp_Ls} {x : Nat} {v : Int32} (h : sp_un (A ++ (x, v) :: B)) : sp_un A ∧ sp_un B ∧ x ∉ sp_ids A ∧ x ∉ sp_ids B ∧ ∀ y, y ∈ sp_ids A → y ∉ sp_ids B := by
  rw [sp_un_app, sp_un_cons] at h
  obtain ⟨h1, ⟨h2, h3⟩, h4⟩ := h
  refine ⟨h1, h3, fun g => h4 x g (by rw [sp_ids_cons]; exact List.mem_cons_self), h2, fun y g g2 => h4 y g (by rw [sp_ids_cons]; exact List.mem_cons_of_mem _ g2)⟩
theorem sp_C_fr {u u' : St2} : ∀ (n q h : Nat) (H W : sp_Ls), sp_C u n q h H W → sp_un W → (∀ y, y ≠ 0 → y ∈ sp_ids W → y ∉ sp_ids H → sp_nd u' y = sp_nd u y ∧ sp_U u' y = sp_U u y) → sp_C u' n q h H W := by
  intro n
  induction n with
  | zero => intro q h H W c _ _; exact c
  | succ n ih =>
    intro q h H W c hu f
    obtain ⟨⟨f1, f2, f3⟩, k, ⟨r, B, hN, tB, c⟩ | ⟨l, A, hN, tA, c⟩⟩ := c
    · obtain ⟨_, _, n1, n2, dj⟩ := sp_un_mid (sp_C_un c hu)
      have i := fun y => sp_ids_mid (A := H) (B := B) (x := q) (v := sp_V u q) y
      have fq := f q (by have := hN.1; omega) (sp_C_in c ((i q).mpr (Or.inr (Or.inl rfl)))) n1
      obtain ⟨e1, e2, e3, e4, e5, e6, e7, e8, e9, e10⟩ := sp_nd_i.mp fq.1
      refine ⟨⟨e8.trans f1, e9.trans f2, e10.trans f3⟩, k, Or.inl ⟨r, B, ?_, ?_, ?_⟩⟩ <;> try rw [e3]
      · exact sp_N_fr hN fq.1 (fq.2.trans hN.2.1)
      · exact sp_t_fr0 tB (fun y hy => f y (by have := sp_t_ids tB hy; omega) (sp_C_in c ((i y).mpr (Or.inr (Or.inr hy)))) (fun g => dj y g hy))
      · exact ih _ _ _ _ c hu (fun y h0 hy g => f y h0 hy (fun g2 => g ((i y).mpr (Or.inl g2))))
    · obtain ⟨_, _, n1, n2, dj⟩ := sp_un_mid (sp_C_un c hu)
      have i := fun y => sp_ids_mid (A := A) (B := H) (x := q) (v := sp_V u q) y
      have fq := f q (by have := hN.1; omega) (sp_C_in c ((i q).mpr (Or.inr (Or.inl rfl)))) n2
      obtain ⟨e1, e2, e3, e4, e5, e6, e7, e8, e9, e10⟩ := sp_nd_i.mp fq.1
      refine ⟨⟨e8.trans f1, e9.trans f2, e10.trans f3⟩, k, Or.inr ⟨l, A, ?_, ?_, ?_⟩⟩ <;> try rw [e3]
      · exact sp_N_fr hN fq.1 (fq.2.trans hN.2.1)
      · exact sp_t_fr0 tA (fun y hy => f y (by have := sp_t_ids tA hy; omega) (sp_C_in c ((i y).mpr (Or.inl hy))) (dj y hy))
      · exact ih _ _ _ _ c hu (fun y h0 hy g => f y h0 hy (fun g2 => g ((i y).mpr (Or.inr (Or.inr g2)))))
/-- in the hole another node takes p's place -/
theorem sp_C_sw {u u' : St2} {n g p x : Nat} {H W : sp_Ls} (c : sp_C u n g p H W) (hu : sp_un W) (hp : p ∈ sp_ids H) (hp2 : 0 < p ∧ p < 49)
    (f : ∀ y, y ≠ 0 → y ∈ sp_ids W → y ∉ sp_ids H → y ≠ g → sp_nd u' y = sp_nd u y) (fU : ∀ y, y ≠ 0 → y ∈ sp_ids W → y ∉ sp_ids H → sp_U u' y = sp_U u y)
    (fg : g ≠ 0 → (sp_V u' g = sp_V u g ∧ sp_S u' g = sp_S u g ∧ sp_T u' g = sp_T u g ∧ sp_M u' g = sp_M u g ∧ sp_W u' g = sp_W u g ∧ sp_tn u' g = sp_tn u g ∧ sp_mi u' g = sp_mi u g ∧ sp_ad u' g = sp_ad u g) ∧
      ((sp_L u g = nI p ∧ sp_L u' g = nI x ∧ sp_R u' g = sp_R u g) ∨ (¬ sp_L u g = nI p ∧ sp_L u' g = sp_L u g ∧ sp_R u' g = nI x))) : sp_C u' n g x H W := by
  cases n with
  | zero => exact c
  | succ n =>
    obtain ⟨⟨f1, f2, f3⟩, k, ⟨r, B, hN, tB, c⟩ | ⟨l, A, hN, tA, c⟩⟩ := c
    · obtain ⟨_, _, n1, n2, dj⟩ := sp_un_mid (sp_C_un c hu)
      have i := fun y => sp_ids_mid (A := H) (B := B) (x := g) (v := sp_V u g) y
      have fq := fU g (by have := hN.1; omega) (sp_C_in c ((i g).mpr (Or.inr (Or.inl rfl)))) n1
      obtain ⟨⟨e3, e4, e5, e6, e7, e8, e9, e10⟩, hh⟩ := fg (by have := hN.1; omega)
      have hl : sp_L u' g = nI x ∧ sp_R u' g = sp_R u g := by
        rcases hh with hh | hh
        · exact hh.2
        · exact absurd hN.2.2.1 hh.1
      refine ⟨⟨e8.trans f1, e9.trans f2, e10.trans f3⟩, k, Or.inl ⟨r, B, ?_, ?_, ?_⟩⟩ <;> try rw [e3]
      · unfold sp_N at hN ⊢
        rw [fq, hl.1, hl.2, e3, e4, e5, e6, e7, e8, e9, e10]
        exact ⟨hN.1, hN.2.1, rfl, hN.2.2.2⟩
      · exact sp_t_fr0 tB (fun y hy => ⟨f y (by have := sp_t_ids tB hy; omega) (sp_C_in c ((i y).mpr (Or.inr (Or.inr hy)))) (fun g => dj y g hy) (fun e => n2 (e ▸ hy)), fU y (by have := sp_t_ids tB hy; omega) (sp_C_in c ((i y).mpr (Or.inr (Or.inr hy)))) (fun g => dj y g hy)⟩)
      · exact sp_C_fr _ _ _ _ _ c hu (fun y h0 hy z => ⟨f y h0 hy (fun g2 => z ((i y).mpr (Or.inl g2))) (fun e => z ((i y).mpr (Or.inr (Or.inl e)))), fU y h0 hy (fun g2 => z ((i y).mpr (Or.inl g2)))⟩)
    · obtain ⟨_, _, n1, n2, dj⟩ := sp_un_mid (sp_C_un c hu)
      have i := fun y => sp_ids_mid (A := A) (B := H) (x := g) (v := sp_V u g) y
      have fq := fU g (by have := hN.1; omega) (sp_C_in c ((i g).mpr (Or.inr (Or.inl rfl)))) n2
      obtain ⟨⟨e3, e4, e5, e6, e7, e8, e9, e10⟩, hh⟩ := fg (by have := hN.1; omega)
      have hl : sp_L u' g = sp_L u g ∧ sp_R u' g = nI x := by
        rcases hh with hh | hh
        · have e := hh.1
          rw [hN.2.2.1, nI_eq (by have := sp_t_lt tA; omega) (by omega)] at e
          exact absurd hp (dj p (e ▸ sp_t_mem tA (by omega)))
        · exact hh.2
      refine ⟨⟨e8.trans f1, e9.trans f2, e10.trans f3⟩, k, Or.inr ⟨l, A, ?_, ?_, ?_⟩⟩ <;> try rw [e3]
      · unfold sp_N at hN ⊢
        rw [fq, hl.1, hl.2, e3, e4, e5, e6, e7, e8, e9, e10]
        exact ⟨hN.1, hN.2.1, hN.2.2.1, rfl, hN.2.2.2.2⟩
      · exact sp_t_fr0 tA (fun y hy => ⟨f y (by have := sp_t_ids tA hy; omega) (sp_C_in c ((i y).mpr (Or.inl hy))) (dj y hy) (fun e => n1 (e ▸ hy)), fU y (by have := sp_t_ids tA hy; omega) (sp_C_in c ((i y).mpr (Or.inl hy))) (dj y hy)⟩)
      · exact sp_C_fr _ _ _ _ _ c hu (fun y h0 hy z => ⟨f y h0 hy (fun g2 => z ((i y).mpr (Or.inr (Or.inr g2)))) (fun e => z ((i y).mpr (Or.inr (Or.inl e)))), fU y h0 hy (fun g2 => z ((i y).mpr (Or.inr (Or.inr g2))))⟩)
end
section
theorem sp_w108 {post : St2 → Prop} {u : St2} {x p a b c d : Nat} (hx : x < 49) (hp : p < 49) (ha : a < 49) (hb : b < 49) (hc : c < 49) (hd : d < 49) (eLp : sp_L u p = nI b) (eRp : sp_R u p = nI c) (eLx : sp_L u x = nI a) (eRx : sp_R u x = nI d) (H : ∀ h7 h8, post (sp_pl (sp_pl (sp_mk u (sp_L u) (sp_R u) (upd (sp_U u) 0 0)) p b c h7) x a d h8)) : wX_lift_108 post (nI x) (nI p) (sp_row u) (sp_clp u) (sp_bef u) (sp_mid u) (sp_beh u) (sp_L u) (sp_R u) (sp_U u) (sp_V u) (sp_S u) (sp_T u) (sp_H u) (sp_M u) (sp_W u) (sp_tn u) (sp_mi u) (sp_ad u) (sp_us u) (sp_st u) (sp_cp u) := by
  unfold wX_lift_108
  refine nm_e ?_
  refine sp_wpull (u := sp_mk u (sp_L u) (sp_R u) (upd (sp_U u) 0 0)) (x := p) (l := b) (r := c) hp hb hc eLp eRp (fun h7 => ?_)
  exact sp_wpull (u := sp_pl (sp_mk u (sp_L u) (sp_R u) (upd (sp_U u) 0 0)) p b c h7) (x := x) (l := a) (r := d) hx ha hd eLx eRx (fun h8 => H h7 h8)
/-- the links behind a lift's last steps -/
def sp_lk (u : St2) (x p g : Nat) (L R U : Nat → Int32) : Prop :=
  (∀ y, y ≠ g → L y = sp_L u y ∧ R y = sp_R u y) ∧ (g ≠ 0 → (sp_L u g = nI p ∧ L g = nI x ∧ R g = sp_R u g) ∨ (¬ sp_L u g = nI p ∧ L g = sp_L u g ∧ R g = nI x)) ∧ U = upd (upd (upd (sp_U u) p (nI x)) x (nI g)) 0 0
theorem sp_w63 {post : St2 → Prop} {u : St2} {x p g a b c d : Nat} (hx : x < 49) (hp : p < 49) (hg : g < 49) (ha : a < 49) (hb : b < 49) (hc : c < 49) (hd : d < 49) (gx : x ≠ g) (gp : p ≠ g) (eLp : sp_L u p = nI b) (eRp : sp_R u p = nI c) (eLx : sp_L u x = nI a) (eRx : sp_R u x = nI d) (H : ∀ L R U, sp_lk u x p g L R U → ∀ h7 h8, post (sp_pl (sp_pl (sp_mk u L R U) p b c h7) x a d h8)) : wX_lift_63 post (nI x) (nI p) (nI g) (sp_row u) (sp_clp u) (sp_bef u) (sp_mid u) (sp_beh u) (sp_L u) (sp_R u) (sp_U u) (sp_V u) (sp_S u) (sp_T u) (sp_H u) (sp_M u) (sp_W u) (sp_tn u) (sp_mi u) (sp_ad u) (sp_us u) (sp_st u) (sp_cp u) := by
  have cx : (nI x).toNatClampNeg = x := nI_clamp (by omega)
  have cp : (nI p).toNatClampNeg = p := nI_clamp (by omega)
  have cg : (nI g).toNatClampNeg = g := nI_clamp (by omega)
  have ix : vp_in (nI x) 49 := vp_in_nI hx (by decide)
  have ip : vp_in (nI p) 49 := vp_in_nI hp (by decide)
  have ig : vp_in (nI g) 49 := vp_in_nI hg (by decide)
  unfold wX_lift_63
  rw [cx, cp, cg]
  refine ⟨ip, nm_e ⟨ix, nm_e (pk_eq g 0 (fun e => ?_) (fun e => ⟨ig, br_c (fun k => ⟨ig, nm_e ?_⟩) (fun k => ⟨ig, nm_e ?_⟩)⟩))⟩⟩
  · exact sp_w108 (u := sp_mk u (sp_L u) (sp_R u) (upd (upd (sp_U u) p (nI x)) x (nI g))) hx hp ha hb hc hd eLp eRp eLx eRx (fun h7 h8 => H (sp_L u) (sp_R u) _ ⟨fun y _ => ⟨rfl, rfl⟩, fun z => absurd e z, rfl⟩ h7 h8)
  · exact sp_w108 (u := sp_mk u (upd (sp_L u) g (nI x)) (sp_R u) (upd (upd (sp_U u) p (nI x)) x (nI g))) hx hp ha hb hc hd ((pk_un gp).trans eLp) eRp ((pk_un gx).trans eLx) eRx (fun h7 h8 => H (upd (sp_L u) g (nI x)) (sp_R u) _ ⟨fun y hy => ⟨pk_un hy, rfl⟩, fun _ => Or.inl ⟨k, pk_us, rfl⟩, rfl⟩ h7 h8)
  · exact sp_w108 (u := sp_mk u (sp_L u) (upd (sp_R u) g (nI x)) (upd (upd (sp_U u) p (nI x)) x (nI g))) hx hp ha hb hc hd eLp ((pk_un gp).trans eRp) eLx ((pk_un gx).trans eRx) (fun h7 h8 => H (sp_L u) (upd (sp_R u) g (nI x)) _ ⟨fun y hy => ⟨rfl, pk_un hy⟩, fun _ => Or.inr ⟨k, rfl, pk_us⟩, rfl⟩ h7 h8)
theorem sp_wlift_l {post : St2 → Prop} {u : St2} {x p g a b c : Nat} (hx : x < 49) (hp : p < 49) (hg : g < 49) (ha : a < 49) (hb : b < 49) (hc : c < 49) (xp : x ≠ p) (gx : x ≠ g) (gp : p ≠ g) (eU : sp_U u x = nI p) (eUp : sp_U u p = nI g) (eLp : sp_L u p = nI x) (eRp : sp_R u p = nI c) (eLx : sp_L u x = nI a) (eRx : sp_R u x = nI b)
    (H : ∀ L R U, sp_lk (sp_mk u (upd (sp_L u) p (nI b)) (upd (sp_R u) x (nI p)) (upd (sp_U u) b (nI p))) x p g L R U → ∀ h7 h8, post (sp_pl (sp_pl (sp_mk u L R U) p b c h7) x a p h8)) : wpX_lift post u (nI x) := by
  have cx : (nI x).toNatClampNeg = x := nI_clamp (by omega)
  have cp : (nI p).toNatClampNeg = p := nI_clamp (by omega)
  have cb : (nI b).toNatClampNeg = b := nI_clamp (by omega)
  have ix : vp_in (nI x) 49 := vp_in_nI hx (by decide)
  have ip : vp_in (nI p) 49 := vp_in_nI hp (by decide)
  have ib : vp_in (nI b) 49 := vp_in_nI hb (by decide)
  unfold wpX_lift
  rw [cx]
  refine ⟨ix, nm_r (e' := nI p) eU ⟨ip, nm_r (e' := nI g) (by rw [cp]; exact eUp) ⟨ip, br_t (by rw [cp]; exact eLp) ⟨ix, ?_⟩⟩⟩⟩
  rw [show u.2.2.2.2.2.2.1 x = nI b from eRx]
  unfold wpX_setLeft
  rw [cp, cb]
  refine ⟨ip, nm_e ⟨ib, nm_e ⟨ix, nm_e ?_⟩⟩⟩
  exact sp_w63 (u := sp_mk u (upd (sp_L u) p (nI b)) (upd (sp_R u) x (nI p)) (upd (sp_U u) b (nI p))) hx hp hg ha hb hc hp gx gp pk_us ((pk_un (Ne.symm xp)).trans eRp) ((pk_un xp).trans eLx) pk_us (fun L R U k h7 h8 => H L R U k h7 h8)
theorem sp_wlift_r {post : St2 → Prop} {u : St2} {x p g a b c : Nat} (hx : x < 49) (hp : p < 49) (hg : g < 49) (ha : a < 49) (hb : b < 49) (hc : c < 49) (xp : x ≠ p) (gx : x ≠ g) (gp : p ≠ g) (eU : sp_U u x = nI p) (eUp : sp_U u p = nI g) (nLp : ¬ sp_L u p = nI x) (eLp : sp_L u p = nI c) (eRp : sp_R u p = nI x) (eLx : sp_L u x = nI a) (eRx : sp_R u x = nI b)
    (H : ∀ L R U, sp_lk (sp_mk u (upd (sp_L u) x (nI p)) (upd (sp_R u) p (nI a)) (upd (sp_U u) a (nI p))) x p g L R U → ∀ h7 h8, post (sp_pl (sp_pl (sp_mk u L R U) p c a h7) x p b h8)) : wpX_lift post u (nI x) := by
  have cx : (nI x).toNatClampNeg = x := nI_clamp (by omega)
  have cp : (nI p).toNatClampNeg = p := nI_clamp (by omega)
  have ca : (nI a).toNatClampNeg = a := nI_clamp (by omega)
  have ix : vp_in (nI x) 49 := vp_in_nI hx (by decide)
  have ip : vp_in (nI p) 49 := vp_in_nI hp (by decide)
  have ia : vp_in (nI a) 49 := vp_in_nI ha (by decide)
  unfold wpX_lift
  rw [cx]
  refine ⟨ix, nm_r (e' := nI p) eU ⟨ip, nm_r (e' := nI g) (by rw [cp]; exact eUp) ⟨ip, br_f (by rw [cp]; exact nLp) ⟨ix, ?_⟩⟩⟩⟩
  rw [show u.2.2.2.2.2.1 x = nI a from eLx]
  unfold wpX_setRight
  rw [cp, ca]
  refine ⟨ip, nm_e ⟨ia, nm_e ⟨ix, nm_e ?_⟩⟩⟩
  exact sp_w63 (u := sp_mk u (upd (sp_L u) x (nI p)) (upd (sp_R u) p (nI a)) (upd (sp_U u) a (nI p))) hx hp hg hp hc ha hb gx gp ((pk_un (Ne.symm xp)).trans eLp) pk_us pk_us ((pk_un xp).trans eRx) (fun L R U k h7 h8 => H L R U k h7 h8)
def sp_fl (u u' : St2) : Prop := sp_tn u' = sp_tn u ∧ sp_mi u' = sp_mi u ∧ sp_ad u' = sp_ad u ∧ sp_V u' = sp_V u
def sp_f0 (u : St2) (x : Nat) : Prop := sp_tn u x = 0 ∧ sp_mi u x = 0 ∧ sp_ad u x = 0
theorem sp_N_l {u : St2} {p x l r : Nat} {A B H : sp_Ls} (h : sp_N u p x l r A B H) (f : sp_f0 u x) : H = A ++ (x, sp_V u x) :: B := by
  have := h.2.2.2.2.1
  rw [f.1, f.2.1, f.2.2, sp_F_0, sp_F_0] at this
  exact this
theorem sp_N_bv {u : St2} {p x l r : Nat} {A B H : sp_Ls} (h : sp_N u p x l r A B H) : sp_bv (sp_V u x) := by
  have := h.2.2.2.2.2.2
  rw [h.2.2.2.2.1, sp_bd_app, sp_bd_cons] at this
  exact this.2.1
theorem sp_C_q {u : St2} {n q h : Nat} {H W : sp_Ls} (c : sp_C u n q h H W) : q < 49 ∧ (q ≠ 0 → q ∈ sp_ids W ∧ (sp_un W → q ∉ sp_ids H)) ∧ (q = 0 → n = 0 ∧ W = H) := by
  cases n with
  | zero => exact ⟨by have := c.1; omega, fun z => absurd c.1 z, fun _ => ⟨rfl, c.2⟩⟩
  | succ n =>
    obtain ⟨_, k, ⟨r, B, hN, _, c⟩ | ⟨l, A, hN, _, c⟩⟩ := c
    · exact ⟨hN.1.2, fun _ => ⟨sp_C_in c ((sp_ids_mid q).mpr (Or.inr (Or.inl rfl))), fun hu => (sp_un_mid (sp_C_un c hu)).2.2.1⟩, fun z => absurd hN.1.1 (by omega)⟩
    · exact ⟨hN.1.2, fun _ => ⟨sp_C_in c ((sp_ids_mid q).mpr (Or.inr (Or.inl rfl))), fun hu => (sp_un_mid (sp_C_un c hu)).2.2.2.1⟩, fun z => absurd hN.1.1 (by omega)⟩
end
section
theorem sp_U4 (U0 : Nat → Int32) {b p x g : Nat} (hp : p ≠ 0) (hx : x ≠ 0) (xp : x ≠ p) (hb : b ≠ 0 → b ≠ x ∧ b ≠ p) {U : Nat → Int32} (e : U = upd (upd (upd (upd U0 b (nI p)) p (nI x)) x (nI g)) 0 0) : (∀ y, y ≠ 0 → y ≠ b → y ≠ p → y ≠ x → U y = U0 y) ∧ U p = nI x ∧ U x = nI g ∧ (b ≠ 0 → U b = nI p) := by
  rw [e]
  refine ⟨fun y h0 h1 h2 h3 => by rw [pk_un h0, pk_un h3, pk_un h2, pk_un h1], by rw [pk_un hp, pk_un (Ne.symm xp), pk_us], by rw [pk_un hx, pk_us], fun h0 => by rw [pk_un h0, pk_un (hb h0).1, pk_un (hb h0).2, pk_us]⟩
theorem sp_ndmk {u : St2} {L R U : Nat → Int32} {y : Nat} (h1 : L y = sp_L u y) (h2 : R y = sp_R u y) : sp_nd (sp_mk u L R U) y = sp_nd u y := sp_nd_i.mpr ⟨h1, h2, rfl, rfl, rfl, rfl, rfl, rfl, rfl, rfl⟩
theorem sp_lift_l {post : St2 → Prop} {u : St2} {x p n a b g c : Nat} {A B H W Q : sp_Ls} (fp : sp_f0 u p) (hNp : sp_N u g p x c H Q (H ++ (p, sp_V u p) :: Q)) (tQ : sp_t u p c Q) (hC' : sp_C u n g p (H ++ (p, sp_V u p) :: Q) W) (hu : sp_un W) (z : sp_Z u) (hN : sp_N u p x a b A B H) (ta : sp_t u x a A) (tb : sp_t u x b B) (f : sp_f0 u x) (K : ∀ u' g l r A' B' H', sp_C u' n g x H' W → sp_N u' g x l r A' B' H' → sp_t u' x l A' → sp_t u' x r B' → sp_Z u' → sp_fr u u' W → sp_ss u u' → sp_fl u u' → (sp_L u p = nI x → l = a ∧ A' = A) → (¬ sp_L u p = nI x → r = b ∧ B' = B) → post u') : wpX_lift post u (nI x) := by
  have hup := sp_C_un hC' hu
  have bvp : sp_bv (sp_V u p) := sp_N_bv hNp
  have bvx : sp_bv (sp_V u x) := sp_N_bv hN
  have i := fun y => sp_ids_mid (A := H) (B := Q) (x := p) (v := sp_V u p) y
  obtain ⟨uH, uQ, pH, pQ, dj0⟩ := sp_un_mid hup
  have dj : ∀ y, y ∈ sp_ids H → y ∉ sp_ids Q := dj0
  obtain ⟨uA, uB, xA, xB, djx⟩ := sp_N_un hN uH
  have j := sp_N_ids hN
  obtain ⟨g49, g1, g2⟩ := sp_C_q hC'
  have xH : x ∈ sp_ids H := (j x).mpr (Or.inr (Or.inl rfl))
  have x0 : x ≠ 0 := by have := hN.1; omega
  have p0 : p ≠ 0 := by have := hNp.1; omega
  have xp : x ≠ p := fun e => pH (e ▸ xH)
  have gHp : ∀ y, y ≠ 0 → y ∈ sp_ids (H ++ (p, sp_V u p) :: Q) → y ≠ g := fun y h0 h1 e => (g1 (e ▸ h0)).2 hu (e ▸ h1)
  have gx : x ≠ g := gHp x x0 ((i x).mpr ((Or.inl) xH))
  have gp : p ≠ g := gHp p p0 ((i p).mpr (Or.inr (Or.inl rfl)))
  have nb : b ≠ 0 → b ≠ x ∧ b ≠ p := fun h0 => ⟨fun e => xB (e ▸ sp_t_mem tb h0), fun e => pH (e ▸ (j b).mpr (Or.inr (Or.inr (sp_t_mem tb h0))))⟩
  refine sp_wlift_l (a := a) (b := b) (c := c) hN.1.2 hNp.1.2 g49 (sp_t_lt ta) (sp_t_lt tb) (sp_t_lt tQ) xp gx gp hN.2.1 hNp.2.1 hNp.2.2.1 hNp.2.2.2.1 hN.2.2.1 hN.2.2.2.1 (fun L R U lk h7 h8 => ?_)
  obtain ⟨U1, U2, U3, U4⟩ := sp_U4 (sp_U u) p0 x0 xp nb lk.2.2
  have lL : ∀ y, y ≠ p → y ≠ g → L y = sp_L u y := fun y h1 h2 => (lk.1 y h2).1.trans (pk_un h1)
  have lR : ∀ y, y ≠ x → y ≠ g → R y = sp_R u y := fun y h1 h2 => (lk.1 y h2).2.trans (pk_un h1)
  have nd1 : ∀ y, y ≠ p → y ≠ x → y ≠ g → sp_nd (sp_mk u L R U) y = sp_nd u y := fun y h1 h2 h3 => sp_ndmk (lL y h1 h3) (lR y h2 h3)
  have inHp : ∀ y, y ∈ sp_ids A ∨ y ∈ sp_ids B ∨ y ∈ sp_ids Q → y ≠ 0 ∧ y ≠ p ∧ y ≠ x ∧ y ≠ g := by
    intro y hy
    have y0 : y ≠ 0 := by
      rcases hy with h | h | h
      · have := sp_t_ids ta h; omega
      · have := sp_t_ids tb h; omega
      · have := sp_t_ids tQ h; omega
    have yI : y ∈ sp_ids H ∨ y ∈ sp_ids Q := by
      rcases hy with h | h | h
      · exact Or.inl ((j y).mpr (Or.inl h))
      · exact Or.inl ((j y).mpr (Or.inr (Or.inr h)))
      · exact Or.inr h
    refine ⟨y0, fun e => ?_, fun e => ?_, gHp y y0 ((i y).mpr (yI.elim (Or.inl) (fun z => Or.inr (Or.inr z))))⟩
    · exact yI.elim (fun h => pH (e ▸ h)) (fun h => pQ (e ▸ h))
    · rcases hy with h | h | h
      · exact xA (e ▸ h)
      · exact xB (e ▸ h)
      · exact dj x xH (e ▸ h)
  have mHm : b ≠ 0 → b ∈ sp_ids H := fun h0 => (j b).mpr (Or.inr (Or.inr (sp_t_mem tb h0)))
  have nk : ∀ y, y ∈ sp_ids A ∨ y ∈ sp_ids Q → y ≠ b := by
    intro y hy e
    have y0 : y ≠ 0 := (inHp y (hy.elim Or.inl (fun z => Or.inr (Or.inr z)))).1
    have hm := sp_t_mem tb (e ▸ y0)
    rcases hy with h | h
    · exact djx y h (e ▸ hm)
    · exact dj y (e ▸ mHm (e ▸ y0)) h
  have t1 : sp_t (sp_mk u L R U) x a A := sp_t_fr0 ta (fun y hy => by
    obtain ⟨h0, h1, h2, h3⟩ := inHp y (Or.inl hy)
    exact ⟨nd1 y h1 h2 h3, U1 y h0 (nk y (Or.inl hy)) h1 h2⟩)
  have t2 : sp_t (sp_mk u L R U) p c Q := sp_t_fr0 tQ (fun y hy => by
    obtain ⟨h0, h1, h2, h3⟩ := inHp y (Or.inr (Or.inr hy))
    exact ⟨nd1 y h1 h2 h3, U1 y h0 (nk y (Or.inr hy)) h1 h2⟩)
  have t3 : sp_t (sp_mk u L R U) p b B := sp_t_mv tb uB (fun y hy => by
    obtain ⟨h0, h1, h2, h3⟩ := inHp y (Or.inr (Or.inl hy))
    exact nd1 y h1 h2 h3) (fun y hy hne => by
    obtain ⟨h0, h1, h2, h3⟩ := inHp y (Or.inr (Or.inl hy))
    exact U1 y h0 hne h1 h2) U4
  have z1 : sp_Z (sp_mk u L R U) := z
  have eLp : L p = nI b := (lk.1 p gp).1.trans pk_us
  have eRp : R p = nI c := (lR p (Ne.symm xp) gp).trans hNp.2.2.2.1
  have eLx : L x = nI a := (lL x xp gx).trans hN.2.2.1
  have eRx : R x = nI p := (lk.1 x gx).2.trans pk_us
  obtain ⟨N1, s1, s2⟩ := sp_pl_ok h7 z1 hNp.1 U2 eLp eRp fp.1 fp.2.1 fp.2.2 bvp t3 t2 (fun h => (inHp p (Or.inr (Or.inl h))).2.1 rfl) pQ
  have tp : sp_t (sp_pl (sp_mk u L R U) p b c h7) x p (B ++ (p, sp_V u p) :: Q) := sp_t_node N1 s1 s2
  have tk : sp_t (sp_pl (sp_mk u L R U) p b c h7) x a A := sp_t_fr0 t1 (fun y hy => ⟨sp_pl_nd _ _ _ _ _ (inHp y (Or.inl hy)).2.1, rfl⟩)
  have z2 : sp_Z (sp_pl (sp_mk u L R U) p b c h7) := sp_Z_nd z1 (sp_pl_nd _ _ _ _ _ (Ne.symm p0))
  have xM : x ∉ sp_ids (B ++ (p, sp_V u p) :: Q) := by
    rw [sp_ids_mid]
    rintro (h | h | h)
    · exact xB h
    · exact xp h
    · exact dj x xH h
  obtain ⟨N2, s3, s4⟩ := sp_pl_ok h8 z2 hN.1 U3 eLx eRx f.1 f.2.1 f.2.2 bvx tk tp xA xM
  have z3 : sp_Z (sp_pl (sp_pl (sp_mk u L R U) p b c h7) x a p h8) := sp_Z_nd z2 (sp_pl_nd _ _ _ _ _ (Ne.symm x0))
  have eH : A ++ (x, sp_V u x) :: (B ++ (p, sp_V u p) :: Q) = H ++ (p, sp_V u p) :: Q := by rw [sp_N_l hN f]; simp
  have nd3 : ∀ y, y ≠ p → y ≠ x → y ≠ g → sp_nd (sp_pl (sp_pl (sp_mk u L R U) p b c h7) x a p h8) y = sp_nd u y := fun y h1 h2 h3 => ((sp_pl_nd _ _ _ _ _ h2).trans (sp_pl_nd _ _ _ _ _ h1)).trans (nd1 y h1 h2 h3)
  have out : ∀ y, y ≠ 0 → y ∉ sp_ids (H ++ (p, sp_V u p) :: Q) → y ≠ p ∧ y ≠ x ∧ y ≠ b := by
    intro y y0 hy
    refine ⟨fun e => hy ((i y).mpr (Or.inr (Or.inl e))), fun e => hy ((i y).mpr ((Or.inl) (e ▸ xH))), fun e => hy ((i y).mpr ((Or.inl) (e ▸ mHm (e ▸ y0))))⟩
  have C2 : sp_C (sp_pl (sp_pl (sp_mk u L R U) p b c h7) x a p h8) n g x (H ++ (p, sp_V u p) :: Q) W := by
    refine sp_C_sw hC' hu ((i p).mpr (Or.inr (Or.inl rfl))) hNp.1 (fun y y0 hy hy2 hy3 => ?_) (fun y y0 hy hy2 => ?_) (fun g0 => ⟨?_, ?_⟩)
    · obtain ⟨h1, h2, h3⟩ := out y y0 hy2
      exact nd3 y h1 h2 hy3
    · obtain ⟨h1, h2, h3⟩ := out y y0 hy2
      exact U1 y y0 h3 h1 h2
    · obtain ⟨k1, k2, k3, k4, k5, k6, k7, k8, k9, k10⟩ := sp_nd_i.mp ((sp_pl_nd (sp_pl (sp_mk u L R U) p b c h7) x a p h8 (Ne.symm gx)).trans (sp_pl_nd (sp_mk u L R U) p b c h7 (Ne.symm gp)))
      exact ⟨k3, k4, k5, k6, k7, k8, k9, k10⟩
    · have q := lk.2.1 g0
      have q1 : upd (sp_L u) p (nI b) g = sp_L u g := pk_un (Ne.symm gp)
      have q2 : upd (sp_R u) x (nI p) g = sp_R u g := pk_un (Ne.symm gx)
      change (upd (sp_L u) p (nI b) g = nI p ∧ L g = nI x ∧ R g = upd (sp_R u) x (nI p) g) ∨ (¬ upd (sp_L u) p (nI b) g = nI p ∧ L g = upd (sp_L u) p (nI b) g ∧ R g = nI x) at q
      rw [q1, q2] at q
      exact q
  have F2 : sp_fr u (sp_pl (sp_pl (sp_mk u L R U) p b c h7) x a p h8) W := by
    intro y y0 hy
    obtain ⟨h1, h2, h3⟩ := out y y0 (fun h => hy (sp_C_in hC' h))
    exact ⟨nd3 y h1 h2 (fun e => hy (e ▸ (g1 (e ▸ y0)).1)), U1 y y0 h3 h1 h2⟩
  have N3 : sp_N (sp_pl (sp_pl (sp_mk u L R U) p b c h7) x a p h8) g x a p A (B ++ (p, sp_V u p) :: Q) (H ++ (p, sp_V u p) :: Q) := by rw [← eH]; exact N2
  exact K (sp_pl (sp_pl (sp_mk u L R U) p b c h7) x a p h8) g a p A (B ++ (p, sp_V u p) :: Q) (H ++ (p, sp_V u p) :: Q) C2 N3 s3 s4 z3 F2 (sp_ss_r u) ⟨rfl, rfl, rfl, rfl⟩ (fun _ => ⟨rfl, rfl⟩) (fun h => absurd hNp.2.2.1 h)
theorem sp_lift_r {post : St2 → Prop} {u : St2} {x p n a b g c : Nat} {A B H W Q : sp_Ls} (fp : sp_f0 u p) (hNp : sp_N u g p c x Q H (Q ++ (p, sp_V u p) :: H)) (tQ : sp_t u p c Q) (hC' : sp_C u n g p (Q ++ (p, sp_V u p) :: H) W) (hu : sp_un W) (z : sp_Z u) (hN : sp_N u p x a b A B H) (ta : sp_t u x a A) (tb : sp_t u x b B) (f : sp_f0 u x) (K : ∀ u' g l r A' B' H', sp_C u' n g x H' W → sp_N u' g x l r A' B' H' → sp_t u' x l A' → sp_t u' x r B' → sp_Z u' → sp_fr u u' W → sp_ss u u' → sp_fl u u' → (sp_L u p = nI x → l = a ∧ A' = A) → (¬ sp_L u p = nI x → r = b ∧ B' = B) → post u') : wpX_lift post u (nI x) := by
  have hup := sp_C_un hC' hu
  have bvp : sp_bv (sp_V u p) := sp_N_bv hNp
  have bvx : sp_bv (sp_V u x) := sp_N_bv hN
  have i := fun y => sp_ids_mid (A := Q) (B := H) (x := p) (v := sp_V u p) y
  obtain ⟨uQ, uH, pQ, pH, dj0⟩ := sp_un_mid hup
  have dj : ∀ y, y ∈ sp_ids H → y ∉ sp_ids Q := fun y h1 h2 => dj0 y h2 h1
  obtain ⟨uA, uB, xA, xB, djx⟩ := sp_N_un hN uH
  have j := sp_N_ids hN
  obtain ⟨g49, g1, g2⟩ := sp_C_q hC'
  have xH : x ∈ sp_ids H := (j x).mpr (Or.inr (Or.inl rfl))
  have x0 : x ≠ 0 := by have := hN.1; omega
  have p0 : p ≠ 0 := by have := hNp.1; omega
  have xp : x ≠ p := fun e => pH (e ▸ xH)
  have gHp : ∀ y, y ≠ 0 → y ∈ sp_ids (Q ++ (p, sp_V u p) :: H) → y ≠ g := fun y h0 h1 e => (g1 (e ▸ h0)).2 hu (e ▸ h1)
  have gx : x ≠ g := gHp x x0 ((i x).mpr ((fun z => Or.inr (Or.inr z)) xH))
  have gp : p ≠ g := gHp p p0 ((i p).mpr (Or.inr (Or.inl rfl)))
  have nb : a ≠ 0 → a ≠ x ∧ a ≠ p := fun h0 => ⟨fun e => xA (e ▸ sp_t_mem ta h0), fun e => pH (e ▸ (j a).mpr (Or.inl (sp_t_mem ta h0)))⟩
  have nl : ¬ sp_L u p = nI x := by
    rw [hNp.2.2.1, nI_eq (by have := sp_t_lt tQ; omega) (by have := hN.1; omega)]
    intro e
    exact dj x xH (e ▸ sp_t_mem tQ (by omega))
  refine sp_wlift_r (a := a) (b := b) (c := c) hN.1.2 hNp.1.2 g49 (sp_t_lt ta) (sp_t_lt tb) (sp_t_lt tQ) xp gx gp hN.2.1 hNp.2.1 nl hNp.2.2.1 hNp.2.2.2.1 hN.2.2.1 hN.2.2.2.1 (fun L R U lk h7 h8 => ?_)
  obtain ⟨U1, U2, U3, U4⟩ := sp_U4 (sp_U u) p0 x0 xp nb lk.2.2
  have lL : ∀ y, y ≠ x → y ≠ g → L y = sp_L u y := fun y h1 h2 => (lk.1 y h2).1.trans (pk_un h1)
  have lR : ∀ y, y ≠ p → y ≠ g → R y = sp_R u y := fun y h1 h2 => (lk.1 y h2).2.trans (pk_un h1)
  have nd1 : ∀ y, y ≠ p → y ≠ x → y ≠ g → sp_nd (sp_mk u L R U) y = sp_nd u y := fun y h1 h2 h3 => sp_ndmk (lL y h2 h3) (lR y h1 h3)
  have inHp : ∀ y, y ∈ sp_ids B ∨ y ∈ sp_ids A ∨ y ∈ sp_ids Q → y ≠ 0 ∧ y ≠ p ∧ y ≠ x ∧ y ≠ g := by
    intro y hy
    have y0 : y ≠ 0 := by
      rcases hy with h | h | h
      · have := sp_t_ids tb h; omega
      · have := sp_t_ids ta h; omega
      · have := sp_t_ids tQ h; omega
    have yI : y ∈ sp_ids H ∨ y ∈ sp_ids Q := by
      rcases hy with h | h | h
      · exact Or.inl ((j y).mpr (Or.inr (Or.inr h)))
      · exact Or.inl ((j y).mpr (Or.inl h))
      · exact Or.inr h
    refine ⟨y0, fun e => ?_, fun e => ?_, gHp y y0 ((i y).mpr (yI.elim (fun z => Or.inr (Or.inr z)) (Or.inl)))⟩
    · exact yI.elim (fun h => pH (e ▸ h)) (fun h => pQ (e ▸ h))
    · rcases hy with h | h | h
      · exact xB (e ▸ h)
      · exact xA (e ▸ h)
      · exact dj x xH (e ▸ h)
  have mHm : a ≠ 0 → a ∈ sp_ids H := fun h0 => (j a).mpr (Or.inl (sp_t_mem ta h0))
  have nk : ∀ y, y ∈ sp_ids B ∨ y ∈ sp_ids Q → y ≠ a := by
    intro y hy e
    have y0 : y ≠ 0 := (inHp y (hy.elim Or.inl (fun z => Or.inr (Or.inr z)))).1
    have hm := sp_t_mem ta (e ▸ y0)
    rcases hy with h | h
    · exact djx y (e ▸ hm) h
    · exact dj y (e ▸ mHm (e ▸ y0)) h
  have t1 : sp_t (sp_mk u L R U) x b B := sp_t_fr0 tb (fun y hy => by
    obtain ⟨h0, h1, h2, h3⟩ := inHp y (Or.inl hy)
    exact ⟨nd1 y h1 h2 h3, U1 y h0 (nk y (Or.inl hy)) h1 h2⟩)
  have t2 : sp_t (sp_mk u L R U) p c Q := sp_t_fr0 tQ (fun y hy => by
    obtain ⟨h0, h1, h2, h3⟩ := inHp y (Or.inr (Or.inr hy))
    exact ⟨nd1 y h1 h2 h3, U1 y h0 (nk y (Or.inr hy)) h1 h2⟩)
  have t3 : sp_t (sp_mk u L R U) p a A := sp_t_mv ta uA (fun y hy => by
    obtain ⟨h0, h1, h2, h3⟩ := inHp y (Or.inr (Or.inl hy))
    exact nd1 y h1 h2 h3) (fun y hy hne => by
    obtain ⟨h0, h1, h2, h3⟩ := inHp y (Or.inr (Or.inl hy))
    exact U1 y h0 hne h1 h2) U4
  have z1 : sp_Z (sp_mk u L R U) := z
  have eLp : L p = nI c := (lL p (Ne.symm xp) gp).trans hNp.2.2.1
  have eRp : R p = nI a := (lk.1 p gp).2.trans pk_us
  have eLx : L x = nI p := (lk.1 x gx).1.trans pk_us
  have eRx : R x = nI b := (lR x xp gx).trans hN.2.2.2.1
  obtain ⟨N1, s1, s2⟩ := sp_pl_ok h7 z1 hNp.1 U2 eLp eRp fp.1 fp.2.1 fp.2.2 bvp t2 t3 pQ (fun h => (inHp p (Or.inr (Or.inl h))).2.1 rfl)
  have tp : sp_t (sp_pl (sp_mk u L R U) p c a h7) x p (Q ++ (p, sp_V u p) :: A) := sp_t_node N1 s1 s2
  have tk : sp_t (sp_pl (sp_mk u L R U) p c a h7) x b B := sp_t_fr0 t1 (fun y hy => ⟨sp_pl_nd _ _ _ _ _ (inHp y (Or.inl hy)).2.1, rfl⟩)
  have z2 : sp_Z (sp_pl (sp_mk u L R U) p c a h7) := sp_Z_nd z1 (sp_pl_nd _ _ _ _ _ (Ne.symm p0))
  have xM : x ∉ sp_ids (Q ++ (p, sp_V u p) :: A) := by
    rw [sp_ids_mid]
    rintro (h | h | h)
    · exact dj x xH h
    · exact xp h
    · exact xA h
  obtain ⟨N2, s3, s4⟩ := sp_pl_ok h8 z2 hN.1 U3 eLx eRx f.1 f.2.1 f.2.2 bvx tp tk xM xB
  have z3 : sp_Z (sp_pl (sp_pl (sp_mk u L R U) p c a h7) x p b h8) := sp_Z_nd z2 (sp_pl_nd _ _ _ _ _ (Ne.symm x0))
  have eH : (Q ++ (p, sp_V u p) :: A) ++ (x, sp_V u x) :: B = Q ++ (p, sp_V u p) :: H := by rw [sp_N_l hN f]; simp
  have nd3 : ∀ y, y ≠ p → y ≠ x → y ≠ g → sp_nd (sp_pl (sp_pl (sp_mk u L R U) p c a h7) x p b h8) y = sp_nd u y := fun y h1 h2 h3 => ((sp_pl_nd _ _ _ _ _ h2).trans (sp_pl_nd _ _ _ _ _ h1)).trans (nd1 y h1 h2 h3)
  have out : ∀ y, y ≠ 0 → y ∉ sp_ids (Q ++ (p, sp_V u p) :: H) → y ≠ p ∧ y ≠ x ∧ y ≠ a := by
    intro y y0 hy
    refine ⟨fun e => hy ((i y).mpr (Or.inr (Or.inl e))), fun e => hy ((i y).mpr ((fun z => Or.inr (Or.inr z)) (e ▸ xH))), fun e => hy ((i y).mpr ((fun z => Or.inr (Or.inr z)) (e ▸ mHm (e ▸ y0))))⟩
  have C2 : sp_C (sp_pl (sp_pl (sp_mk u L R U) p c a h7) x p b h8) n g x (Q ++ (p, sp_V u p) :: H) W := by
    refine sp_C_sw hC' hu ((i p).mpr (Or.inr (Or.inl rfl))) hNp.1 (fun y y0 hy hy2 hy3 => ?_) (fun y y0 hy hy2 => ?_) (fun g0 => ⟨?_, ?_⟩)
    · obtain ⟨h1, h2, h3⟩ := out y y0 hy2
      exact nd3 y h1 h2 hy3
    · obtain ⟨h1, h2, h3⟩ := out y y0 hy2
      exact U1 y y0 h3 h1 h2
    · obtain ⟨k1, k2, k3, k4, k5, k6, k7, k8, k9, k10⟩ := sp_nd_i.mp ((sp_pl_nd (sp_pl (sp_mk u L R U) p c a h7) x p b h8 (Ne.symm gx)).trans (sp_pl_nd (sp_mk u L R U) p c a h7 (Ne.symm gp)))
      exact ⟨k3, k4, k5, k6, k7, k8, k9, k10⟩
    · have q := lk.2.1 g0
      have q1 : upd (sp_L u) x (nI p) g = sp_L u g := pk_un (Ne.symm gx)
      have q2 : upd (sp_R u) p (nI a) g = sp_R u g := pk_un (Ne.symm gp)
      change (upd (sp_L u) x (nI p) g = nI p ∧ L g = nI x ∧ R g = upd (sp_R u) p (nI a) g) ∨ (¬ upd (sp_L u) x (nI p) g = nI p ∧ L g = upd (sp_L u) x (nI p) g ∧ R g = nI x) at q
      rw [q1, q2] at q
      exact q
  have F2 : sp_fr u (sp_pl (sp_pl (sp_mk u L R U) p c a h7) x p b h8) W := by
    intro y y0 hy
    obtain ⟨h1, h2, h3⟩ := out y y0 (fun h => hy (sp_C_in hC' h))
    exact ⟨nd3 y h1 h2 (fun e => hy (e ▸ (g1 (e ▸ y0)).1)), U1 y y0 h3 h1 h2⟩
  have N3 : sp_N (sp_pl (sp_pl (sp_mk u L R U) p c a h7) x p b h8) g x p b (Q ++ (p, sp_V u p) :: A) B (Q ++ (p, sp_V u p) :: H) := by rw [← eH]; exact N2
  exact K (sp_pl (sp_pl (sp_mk u L R U) p c a h7) x p b h8) g p b (Q ++ (p, sp_V u p) :: A) B (Q ++ (p, sp_V u p) :: H) C2 N3 s3 s4 z3 F2 (sp_ss_r u) ⟨rfl, rfl, rfl, rfl⟩ (fun h => absurd h nl) (fun _ => ⟨rfl, rfl⟩)
theorem sp_lift_ok {post : St2 → Prop} {u : St2} {x p n a b : Nat} {A B H W : sp_Ls} (hC : sp_C u (n + 1) p x H W) (hu : sp_un W) (z : sp_Z u) (hN : sp_N u p x a b A B H) (ta : sp_t u x a A) (tb : sp_t u x b B) (f : sp_f0 u x) (K : ∀ u' g l r A' B' H', sp_C u' n g x H' W → sp_N u' g x l r A' B' H' → sp_t u' x l A' → sp_t u' x r B' → sp_Z u' → sp_fr u u' W → sp_ss u u' → sp_fl u u' → (sp_L u p = nI x → l = a ∧ A' = A) → (¬ sp_L u p = nI x → r = b ∧ B' = B) → post u') : wpX_lift post u (nI x) := by
  obtain ⟨fp, g, ⟨c, Q, hNp, tQ, hC'⟩ | ⟨c, Q, hNp, tQ, hC'⟩⟩ := hC
  · exact sp_lift_l fp hNp tQ hC' hu z hN ta tb f K
  · exact sp_lift_r fp hNp tQ hC' hu z hN ta tb f K
end
section
theorem sp_fl_f0 {u u' : St2} {x : Nat} (h : sp_fl u u') (f : sp_f0 u x) : sp_f0 u' x := by
  unfold sp_f0
  rw [h.1, h.2.1, h.2.2.1]
  exact f
theorem sp_split : ∀ (A A' B B' : sp_Ls) (x : Nat) (v v' : Int32), sp_un (A ++ (x, v) :: B) → A ++ (x, v) :: B = A' ++ (x, v') :: B' → A = A' ∧ B = B' ∧ v = v' := by
  intro A
  induction A with
  | nil =>
    intro A' B B' x v v' hu e
    cases A' with
    | nil =>
      simp only [List.nil_append, List.cons.injEq, Prod.mk.injEq, true_and] at e
      exact ⟨rfl, e.2, e.1⟩
    | cons a A' =>
      simp only [List.nil_append, List.cons_append, List.cons.injEq] at e
      rw [List.nil_append, sp_un_cons, e.2] at hu
      exact absurd ((sp_ids_mid x).mpr (Or.inr (Or.inl rfl))) hu.1
  | cons a A ih =>
    intro A' B B' x v v' hu e
    rw [List.cons_append, sp_un_cons] at hu
    cases A' with
    | nil =>
      simp only [List.nil_append, List.cons_append, List.cons.injEq] at e
      rw [e.1] at hu
      exact absurd ((sp_ids_mid x).mpr (Or.inr (Or.inl rfl))) hu.1
    | cons a' A' =>
      simp only [List.cons_append, List.cons.injEq] at e
      obtain ⟨h1, h2, h3⟩ := ih A' B B' x v v' hu.2 e.2
      exact ⟨by rw [h1, e.1], h2, h3⟩
theorem sp_s92 {post : St2 → Prop} (J : Int32 → Int32 → Int32 → Int32 → Int32 → Int32 → (Nat → Int32) → (Nat → Int32) → (Nat → Int32) → (Nat → Int32) → (Nat → Int32) → (Nat → Int32) → (Nat → Int32) → (Nat → Int32) → (Nat → Int32) → (Nat → Int32) → (Nat → Int32) → (Nat → Int32) → (Nat → Int32) → (Nat → Int32) → (Nat → Int32) → Prop) {u : St2} {x p n i a b : Nat} {A B H W : sp_Ls} (hC : sp_C u (n + 1) p x H W) (hu : sp_un W) (z : sp_Z u) (hN : sp_N u p x a b A B H) (ta : sp_t u x a A) (tb : sp_t u x b B) (f : sp_f0 u x)
    (K : ∀ u' g l r A' B' H', sp_C u' n g x H' W → sp_N u' g x l r A' B' H' → sp_t u' x l A' → sp_t u' x r B' → sp_f0 u' x → sp_Z u' → sp_fr u u' W → sp_ss u u' → J (nI (i + 1)) (sp_row u') (sp_clp u') (sp_bef u') (sp_mid u') (sp_beh u') (sp_L u') (sp_R u') (sp_U u') (sp_V u') (sp_S u') (sp_T u') (sp_H u') (sp_M u') (sp_W u') (sp_tn u') (sp_mi u') (sp_ad u') (sp_us u') (sp_st u') (sp_cp u')) : wX_splay_92 post J (nI x) (nI i) (sp_row u) (sp_clp u) (sp_bef u) (sp_mid u) (sp_beh u) (sp_L u) (sp_R u) (sp_U u) (sp_V u) (sp_S u) (sp_T u) (sp_H u) (sp_M u) (sp_W u) (sp_tn u) (sp_mi u) (sp_ad u) (sp_us u) (sp_st u) (sp_cp u) := by
  unfold wX_splay_92
  refine sp_lift_ok (u := u) hC hu z hN ta tb f (fun u' g l r A' B' H' c1 c2 c3 c4 c5 c6 c7 c8 _ _ => ?_)
  show ∀ y, y = nI i + 1 → J y (sp_row u') (sp_clp u') (sp_bef u') (sp_mid u') (sp_beh u') (sp_L u') (sp_R u') (sp_U u') (sp_V u') (sp_S u') (sp_T u') (sp_H u') (sp_M u') (sp_W u') (sp_tn u') (sp_mi u') (sp_ad u') (sp_us u') (sp_st u') (sp_cp u')
  exact nm_r (nI_1 i) (K u' g l r A' B' H' c1 c2 c3 c4 (sp_fl_f0 c8 f) c5 c6 c7)
theorem sp_s89x {post : St2 → Prop} (J : Int32 → Int32 → Int32 → Int32 → Int32 → Int32 → (Nat → Int32) → (Nat → Int32) → (Nat → Int32) → (Nat → Int32) → (Nat → Int32) → (Nat → Int32) → (Nat → Int32) → (Nat → Int32) → (Nat → Int32) → (Nat → Int32) → (Nat → Int32) → (Nat → Int32) → (Nat → Int32) → (Nat → Int32) → (Nat → Int32) → Prop) {u : St2} {x p n i a b : Nat} {A B H W : sp_Ls} (hC : sp_C u (n + 2) p x H W) (hu : sp_un W) (z : sp_Z u) (hN : sp_N u p x a b A B H) (ta : sp_t u x a A) (tb : sp_t u x b B) (f : sp_f0 u x)
    (K : ∀ u' g l r A' B' H', sp_C u' n g x H' W → sp_N u' g x l r A' B' H' → sp_t u' x l A' → sp_t u' x r B' → sp_f0 u' x → sp_Z u' → sp_fr u u' W → sp_ss u u' → J (nI (i + 1)) (sp_row u') (sp_clp u') (sp_bef u') (sp_mid u') (sp_beh u') (sp_L u') (sp_R u') (sp_U u') (sp_V u') (sp_S u') (sp_T u') (sp_H u') (sp_M u') (sp_W u') (sp_tn u') (sp_mi u') (sp_ad u') (sp_us u') (sp_st u') (sp_cp u')) : wX_splay_89 post J (nI x) (nI i) (nI x) (sp_row u) (sp_clp u) (sp_bef u) (sp_mid u) (sp_beh u) (sp_L u) (sp_R u) (sp_U u) (sp_V u) (sp_S u) (sp_T u) (sp_H u) (sp_M u) (sp_W u) (sp_tn u) (sp_mi u) (sp_ad u) (sp_us u) (sp_st u) (sp_cp u) := by
  unfold wX_splay_89
  refine sp_lift_ok (u := u) hC hu z hN ta tb f (fun u' g l r A' B' H' c1 c2 c3 c4 c5 c6 c7 c8 _ _ => ?_)
  exact sp_s92 J (u := u') c1 hu c5 c2 c3 c4 (sp_fl_f0 c8 f) (fun w g l r A' B' H' d1 d2 d3 d4 d5 d6 d7 d8 => K w g l r A' B' H' d1 d2 d3 d4 d5 d6 (sp_fr_t c6 d7) (sp_ss_t c7 d8))
theorem sp_s89l {post : St2 → Prop} (J : Int32 → Int32 → Int32 → Int32 → Int32 → Int32 → (Nat → Int32) → (Nat → Int32) → (Nat → Int32) → (Nat → Int32) → (Nat → Int32) → (Nat → Int32) → (Nat → Int32) → (Nat → Int32) → (Nat → Int32) → (Nat → Int32) → (Nat → Int32) → (Nat → Int32) → (Nat → Int32) → (Nat → Int32) → (Nat → Int32) → Prop) {u : St2} {x p n i a b g c : Nat} {A B H W Q : sp_Ls} (fp : sp_f0 u p) (hNp : sp_N u g p x c H Q (H ++ (p, sp_V u p) :: Q)) (tQ : sp_t u p c Q) (hC : sp_C u (n + 1) g p (H ++ (p, sp_V u p) :: Q) W) (hL : sp_L u g = nI p) (hu : sp_un W) (z : sp_Z u) (hN : sp_N u p x a b A B H) (ta : sp_t u x a A) (tb : sp_t u x b B) (f : sp_f0 u x)
    (K : ∀ u' g l r A' B' H', sp_C u' n g x H' W → sp_N u' g x l r A' B' H' → sp_t u' x l A' → sp_t u' x r B' → sp_f0 u' x → sp_Z u' → sp_fr u u' W → sp_ss u u' → J (nI (i + 1)) (sp_row u') (sp_clp u') (sp_bef u') (sp_mid u') (sp_beh u') (sp_L u') (sp_R u') (sp_U u') (sp_V u') (sp_S u') (sp_T u') (sp_H u') (sp_M u') (sp_W u') (sp_tn u') (sp_mi u') (sp_ad u') (sp_us u') (sp_st u') (sp_cp u')) : wX_splay_89 post J (nI x) (nI i) (nI p) (sp_row u) (sp_clp u) (sp_bef u) (sp_mid u) (sp_beh u) (sp_L u) (sp_R u) (sp_U u) (sp_V u) (sp_S u) (sp_T u) (sp_H u) (sp_M u) (sp_W u) (sp_tn u) (sp_mi u) (sp_ad u) (sp_us u) (sp_st u) (sp_cp u) := by
  unfold wX_splay_89
  refine sp_lift_ok (u := u) hC hu z hNp (sp_t_node hN ta tb) tQ fp (fun u' g l r A' B' H' c1 c2 c3 c4 c5 c6 c7 c8 c9 _ => ?_)
  obtain ⟨e1, e2⟩ := c9 hL
  subst e1 e2
  obtain ⟨a', b', A'', B'', n1, n2, n3⟩ := sp_t_inv c3 (by have := hN.1; omega)
  have fp' := sp_fl_f0 c8 fp
  have eH := sp_N_l c2 fp'
  subst eH
  exact sp_s92 J (u := u') (n := n) ⟨fp', g, Or.inl ⟨r, B', c2, c4, c1⟩⟩ hu c5 n1 n2 n3 (sp_fl_f0 c8 f) (fun w g l r A' B' H' d1 d2 d3 d4 d5 d6 d7 d8 => K w g l r A' B' H' d1 d2 d3 d4 d5 d6 (sp_fr_t c6 d7) (sp_ss_t c7 d8))
theorem sp_s89r {post : St2 → Prop} (J : Int32 → Int32 → Int32 → Int32 → Int32 → Int32 → (Nat → Int32) → (Nat → Int32) → (Nat → Int32) → (Nat → Int32) → (Nat → Int32) → (Nat → Int32) → (Nat → Int32) → (Nat → Int32) → (Nat → Int32) → (Nat → Int32) → (Nat → Int32) → (Nat → Int32) → (Nat → Int32) → (Nat → Int32) → (Nat → Int32) → Prop) {u : St2} {x p n i a b g c : Nat} {A B H W Q : sp_Ls} (fp : sp_f0 u p) (hNp : sp_N u g p c x Q H (Q ++ (p, sp_V u p) :: H)) (tQ : sp_t u p c Q) (hC : sp_C u (n + 1) g p (Q ++ (p, sp_V u p) :: H) W) (hL : ¬ sp_L u g = nI p) (hu : sp_un W) (z : sp_Z u) (hN : sp_N u p x a b A B H) (ta : sp_t u x a A) (tb : sp_t u x b B) (f : sp_f0 u x)
    (K : ∀ u' g l r A' B' H', sp_C u' n g x H' W → sp_N u' g x l r A' B' H' → sp_t u' x l A' → sp_t u' x r B' → sp_f0 u' x → sp_Z u' → sp_fr u u' W → sp_ss u u' → J (nI (i + 1)) (sp_row u') (sp_clp u') (sp_bef u') (sp_mid u') (sp_beh u') (sp_L u') (sp_R u') (sp_U u') (sp_V u') (sp_S u') (sp_T u') (sp_H u') (sp_M u') (sp_W u') (sp_tn u') (sp_mi u') (sp_ad u') (sp_us u') (sp_st u') (sp_cp u')) : wX_splay_89 post J (nI x) (nI i) (nI p) (sp_row u) (sp_clp u) (sp_bef u) (sp_mid u) (sp_beh u) (sp_L u) (sp_R u) (sp_U u) (sp_V u) (sp_S u) (sp_T u) (sp_H u) (sp_M u) (sp_W u) (sp_tn u) (sp_mi u) (sp_ad u) (sp_us u) (sp_st u) (sp_cp u) := by
  unfold wX_splay_89
  refine sp_lift_ok (u := u) hC hu z hNp tQ (sp_t_node hN ta tb) fp (fun u' g l r A' B' H' c1 c2 c3 c4 c5 c6 c7 c8 _ c9 => ?_)
  obtain ⟨e1, e2⟩ := c9 hL
  subst e1 e2
  obtain ⟨a', b', A'', B'', n1, n2, n3⟩ := sp_t_inv c4 (by have := hN.1; omega)
  have fp' := sp_fl_f0 c8 fp
  have eH := sp_N_l c2 fp'
  subst eH
  exact sp_s92 J (u := u') (n := n) ⟨fp', g, Or.inr ⟨l, A', c2, c3, c1⟩⟩ hu c5 n1 n2 n3 (sp_fl_f0 c8 f) (fun w g l r A' B' H' d1 d2 d3 d4 d5 d6 d7 d8 => K w g l r A' B' H' d1 d2 d3 d4 d5 d6 (sp_fr_t c6 d7) (sp_ss_t c7 d8))
theorem sp_spl {post : St2 → Prop} {x : Nat} {W : sp_Ls} (hu : sp_un W) : ∀ (f n i q a b : Nat) (u : St2) (A B H : sp_Ls), n < f → i + n ≤ 48 → sp_C u n q x H W → sp_N u q x a b A B H → sp_t u x a A → sp_t u x b B → sp_f0 u x → sp_Z u →
    (∀ u' a b A B, sp_N u' 0 x a b A B W → sp_t u' x a A → sp_t u' x b B → sp_f0 u' x → sp_Z u' → sp_fr u u' W → sp_ss u u' → post u') → wX_splay_2 post (nI x) f (nI i) (sp_row u) (sp_clp u) (sp_bef u) (sp_mid u) (sp_beh u) (sp_L u) (sp_R u) (sp_U u) (sp_V u) (sp_S u) (sp_T u) (sp_H u) (sp_M u) (sp_W u) (sp_tn u) (sp_mi u) (sp_ad u) (sp_us u) (sp_st u) (sp_cp u) := by
  intro f
  induction f with
  | zero => intro n i q a b u A B H hn; omega
  | succ f ih =>
    intro n i q a b u A B H hn hi hC hN ta tb f0 z K
    have x49 := hN.1
    have q49 := (sp_C_q hC).1
    have cx : (nI x).toNatClampNeg = x := nI_clamp (by omega)
    have cq : (nI q).toNatClampNeg = q := nI_clamp (by omega)
    have ix : vp_in (nI x) 49 := vp_in_nI x49.2 (by decide)
    have iq : vp_in (nI q) 49 := vp_in_nI q49 (by decide)
    have fin : q = 0 → post u := by
      intro e
      obtain ⟨e1, e2⟩ := (sp_C_q hC).2.2 e
      subst e e1 e2
      exact K u a b A B hN ta tb f0 z (sp_fr_r u _) (sp_ss_r u)
    unfold wX_splay_2
    rw [cx]
    refine pk_le 48 i (fun h => ?_) (fun h => And.intro ix (br_c (fun e => ?_) (fun e => And.intro ix (nm_r (e' := nI q) hN.2.1 (And.intro iq ?_)))))
    · have n0 : n = 0 := by omega
      subst n0
      exact fin hC.1
    · rw [hN.2.1] at e
      exact fin ((nI_eq (by omega) (by omega)).mp (e.trans nI_0.symm))
    · cases n with
      | zero =>
        have e0 := hC.1
        subst e0
        exact absurd (hN.2.1.trans nI_0) e
      | succ n =>
        have S92 := hC
        obtain ⟨fp, g, ⟨c, Q, hNp, tQ, hC'⟩ | ⟨c, Q, hNp, tQ, hC'⟩⟩ := hC
        · have g49 := (sp_C_q hC').1
          have cg : (nI g).toNatClampNeg = g := nI_clamp (by omega)
          have ig : vp_in (nI g) 49 := vp_in_nI g49 (by decide)
          refine nm_r (e' := nI g) (by rw [cq]; exact hNp.2.1) (pk_eq g 0 (fun g0 => ?_) (fun g0 => And.intro ig ?_))
          · exact sp_s92 _ (u := u) S92 hu z hN ta tb f0 (fun w g l r A' B' H' d1 d2 d3 d4 d5 d6 d7 d8 => ih n (i + 1) g l r w A' B' H' (by omega) (by omega) d1 d2 d3 d4 d5 d6 (fun w' a b A B k1 k2 k3 k4 k5 k6 k7 => K w' a b A B k1 k2 k3 k4 k5 (sp_fr_t d7 k6) (sp_ss_t d8 k7)))
          · cases n with
            | zero => exact absurd hC'.1 g0
            | succ n =>
              have K' : ∀ w g l r A' B' H', sp_C w n g x H' W → sp_N w g x l r A' B' H' → sp_t w x l A' → sp_t w x r B' → sp_f0 w x → sp_Z w → sp_fr u w W → sp_ss u w → wX_splay_2 post (nI x) f (nI (i + 1)) (sp_row w) (sp_clp w) (sp_bef w) (sp_mid w) (sp_beh w) (sp_L w) (sp_R w) (sp_U w) (sp_V w) (sp_S w) (sp_T w) (sp_H w) (sp_M w) (sp_W w) (sp_tn w) (sp_mi w) (sp_ad w) (sp_us w) (sp_st w) (sp_cp w) := fun w g l r A' B' H' d1 d2 d3 d4 d5 d6 d7 d8 => ih n (i + 1) g l r w A' B' H' (by omega) (by omega) d1 d2 d3 d4 d5 d6 (fun w' a b A B k1 k2 k3 k4 k5 k6 k7 => K w' a b A B k1 k2 k3 k4 k5 (sp_fr_t d7 k6) (sp_ss_t d8 k7))
              rw [cg]
              refine br_c (fun e1 => ?_) (fun e1 => ?_)
              · unfold wX_splay_53
                rw [cq]
                refine And.intro iq (br_t hNp.2.2.1 (br_t rfl (br_f (by decide) ?_)))
                exact sp_s89l _ fp hNp tQ hC' e1 hu z hN ta tb f0 K'
              · unfold wX_splay_53
                rw [cq]
                refine And.intro iq (br_t hNp.2.2.1 (br_f (by decide) (br_t rfl ?_)))
                exact sp_s89x _ S92 hu z hN ta tb f0 K'
        · have g49 := (sp_C_q hC').1
          have cg : (nI g).toNatClampNeg = g := nI_clamp (by omega)
          have ig : vp_in (nI g) 49 := vp_in_nI g49 (by decide)
          have nl : ¬ sp_L u q = nI x := by
            rw [hNp.2.2.1, nI_eq (by have := sp_t_lt tQ; omega) (by omega)]
            intro e
            exact (sp_un_mid (sp_C_un hC' hu)).2.2.2.2 x (e ▸ sp_t_mem tQ (by omega)) ((sp_N_ids hN x).mpr (Or.inr (Or.inl rfl)))
          refine nm_r (e' := nI g) (by rw [cq]; exact hNp.2.1) (pk_eq g 0 (fun g0 => ?_) (fun g0 => And.intro ig ?_))
          · exact sp_s92 _ (u := u) S92 hu z hN ta tb f0 (fun w g l r A' B' H' d1 d2 d3 d4 d5 d6 d7 d8 => ih n (i + 1) g l r w A' B' H' (by omega) (by omega) d1 d2 d3 d4 d5 d6 (fun w' a b A B k1 k2 k3 k4 k5 k6 k7 => K w' a b A B k1 k2 k3 k4 k5 (sp_fr_t d7 k6) (sp_ss_t d8 k7)))
          · cases n with
            | zero => exact absurd hC'.1 g0
            | succ n =>
              have K' : ∀ w g l r A' B' H', sp_C w n g x H' W → sp_N w g x l r A' B' H' → sp_t w x l A' → sp_t w x r B' → sp_f0 w x → sp_Z w → sp_fr u w W → sp_ss u w → wX_splay_2 post (nI x) f (nI (i + 1)) (sp_row w) (sp_clp w) (sp_bef w) (sp_mid w) (sp_beh w) (sp_L w) (sp_R w) (sp_U w) (sp_V w) (sp_S w) (sp_T w) (sp_H w) (sp_M w) (sp_W w) (sp_tn w) (sp_mi w) (sp_ad w) (sp_us w) (sp_st w) (sp_cp w) := fun w g l r A' B' H' d1 d2 d3 d4 d5 d6 d7 d8 => ih n (i + 1) g l r w A' B' H' (by omega) (by omega) d1 d2 d3 d4 d5 d6 (fun w' a b A B k1 k2 k3 k4 k5 k6 k7 => K w' a b A B k1 k2 k3 k4 k5 (sp_fr_t d7 k6) (sp_ss_t d8 k7))
              rw [cg]
              refine br_c (fun e1 => ?_) (fun e1 => ?_)
              · unfold wX_splay_53
                rw [cq]
                refine And.intro iq (br_f nl (br_f (by decide) (br_t rfl ?_)))
                exact sp_s89x _ S92 hu z hN ta tb f0 K'
              · unfold wX_splay_53
                rw [cq]
                refine And.intro iq (br_f nl (br_t rfl (br_f (by decide) ?_)))
                exact sp_s89r _ fp hNp tQ hC' e1 hu z hN ta tb f0 K'
theorem sp_brg {post : Int32 → St2 → Prop} {W : sp_Ls} {k : Nat} (hu : sp_un W) (hW : W.length ≤ 48) : ∀ (f i n q x rest : Nat) (u : St2) (H X Y : sp_Ls), 48 - i < f → i ≤ 48 → sp_C u n q x H W → sp_t u q x H → x ≠ 0 → sp_Z u → W = X ++ H ++ Y → X.length + rest = k → rest < H.length → ((sp_f0 u x ∧ ∃ A B v, H = A ++ (x, v) :: B ∧ A.length = rest) ∨ i + H.length ≤ 48) →
    (∀ u' y a b A B, sp_N u' 0 y a b A B W → A.length = k → sp_t u' y a A → sp_t u' y b B → sp_f0 u' y → sp_Z u' → sp_fr u u' W → sp_ss u u' → post (nI y) u') → wX_bring_8 post f (nI x) (nI rest) (nI i) (sp_row u) (sp_clp u) (sp_bef u) (sp_mid u) (sp_beh u) (sp_L u) (sp_R u) (sp_U u) (sp_V u) (sp_S u) (sp_T u) (sp_H u) (sp_M u) (sp_W u) (sp_tn u) (sp_mi u) (sp_ad u) (sp_us u) (sp_st u) (sp_cp u) := by
  intro f
  induction f with
  | zero => intro i n q x rest u H X Y hf; omega
  | succ f ih =>
    intro i n q x rest u H X Y hf hi hC hT hx z eW ek hr hd K
    have x49 := sp_t_lt hT
    have cx : (nI x).toNatClampNeg = x := nI_clamp (by omega)
    have ix : vp_in (nI x) 49 := vp_in_nI x49 (by decide)
    have uH := sp_C_un hC hu
    have lW := sp_C_len hC
    unfold wX_bring_8
    refine pk_le 48 i (fun h => ?_) (fun h => ?_)
    · rcases hd with ⟨f0, A, B, v, eH, lA⟩ | hd
      · obtain ⟨a, b, A1, B1, hN, ta, tb⟩ := sp_t_inv hT hx
        refine ⟨n + 1, sp_spl hu (n + 1) n 0 q a b u A1 B1 H (by omega) (by omega) hC hN ta tb f0 z (fun u' a b A' B' k1 k2 k3 k4 k5 k6 k7 => ?_)⟩
        refine K u' x a b A' B' k1 ?_ k2 k3 k4 k5 k6 k7
        have e1 := sp_N_l k1 k4
        have e2 : W = (X ++ A) ++ (x, v) :: (B ++ Y) := by rw [eW, eH]; simp
        have e3 := (sp_split (X ++ A) A' (B ++ Y) B' x v (sp_V u' x) (by rw [← e2]; exact hu) (by rw [← e2]; exact e1)).1
        rw [← e3, List.length_append, lA, ek]
      · omega
    · have hf2 : 48 - (i + 1) < f := by clear hd; omega
      have hi2 : i + 1 ≤ 48 := by clear hd; omega
      refine sp_push_ok (u := u) hT hx uH (fun u' l r A B hN ta tb f1 f2 f3 on => ?_)
      have f0 : sp_f0 u' x := ⟨f1, f2, f3⟩
      have eH := sp_N_l hN f0
      have hC2 : sp_C u' n q x H W := sp_C_fr _ _ _ _ _ hC hu (fun y _ _ hy => ⟨on.1 y hy, by rw [on.2.1]⟩)
      have z2 : sp_Z u' := sp_Z_nd z (on.1 0 (fun h0 => by have := sp_t_ids hT h0; omega))
      have l49 := sp_t_lt ta
      have cl : (nI l).toNatClampNeg = l := nI_clamp (by omega)
      have il : vp_in (nI l) 49 := vp_in_nI l49 (by decide)
      have gA := (sp_t_G z2 ta).1
      have lH : H.length = A.length + 1 + B.length := by rw [eH, List.length_append, List.length_cons]; omega
      have K2 : ∀ u'' y a b A B, sp_N u'' 0 y a b A B W → A.length = k → sp_t u'' y a A → sp_t u'' y b B → sp_f0 u'' y → sp_Z u'' → sp_fr u' u'' W → sp_ss u' u'' → post (nI y) u'' := fun u'' y a b A B k1 k2 k3 k4 k5 k6 k7 k8 => K u'' y a b A B k1 k2 k3 k4 k5 k6 (sp_fr_t (sp_fr_m (sp_on_fr on) (fun _ hy => sp_C_in hC hy)) k7) (sp_ss_t on.2.2 k8)
      have nf : A.length ≠ rest → i + H.length ≤ 48 := by
        intro ne
        rcases hd with ⟨_, A2, B2, v, e2, l2⟩ | hd
        · have := (sp_split A A2 B B2 x _ v (by rw [← eH]; exact uH) (by rw [← eH]; exact e2)).1
          rw [this] at ne
          exact absurd l2 ne
        · exact hd
      show vp_in (nI x) 49 ∧ vp_in (sp_L u' (nI x).toNatClampNeg) 49 ∧ ∀ y, y = sp_S u' (sp_L u' (nI x).toNatClampNeg).toNatClampNeg → _
      rw [cx, hN.2.2.1, cl]
      refine ⟨ix, il, nm_r (e' := nI A.length) gA ?_⟩
      refine pk_le A.length rest (fun h1 => pk_le rest A.length (fun h2 => nm_r (nI_1 i) ?_) (fun h2 => nm_r (e' := nI (rest - A.length - 1)) ?_ (And.intro ix (nm_r (e' := nI r) hN.2.2.2.1 (nm_r (nI_1 i) ?_))))) (fun h1 => And.intro ix (nm_r (e' := nI l) hN.2.2.1 (nm_r (nI_1 i) ?_)))
      · exact ih (i + 1) n q x rest u' H X Y hf2 hi2 hC2 (sp_t_node hN ta tb) hx z2 eW ek hr (Or.inl ⟨f0, A, B, _, eH, Nat.le_antisymm h1 h2⟩) K2
      · rw [pk_sub (by omega)]
        show nI (rest - A.length) - nI 1 = _
        rw [pk_sub (by omega)]
      · have r0 : r ≠ 0 := by
          intro e
          subst e
          have := sp_t_0 tb
          subst this
          simp only [List.length_nil] at lH
          omega
        have hN' := hN
        have hC3 := hC2
        rw [eH] at hN' hC3
        refine ih (i + 1) (n + 1) x r (rest - A.length - 1) u' B (X ++ A ++ [(x, sp_V u' x)]) Y hf2 hi2 ⟨f0, q, Or.inr ⟨l, A, hN', ta, hC3⟩⟩ tb r0 z2 (by rw [eW, eH]; simp) (by simp only [List.length_append, List.length_cons, List.length_nil]; omega) (by omega) (Or.inr (by have := nf (by omega); omega)) K2
      · have l0 : l ≠ 0 := by
          intro e
          subst e
          have := sp_t_0 ta
          subst this
          simp only [List.length_nil] at h1
          omega
        have hN' := hN
        have hC3 := hC2
        rw [eH] at hN' hC3
        refine ih (i + 1) (n + 1) x l rest u' A X ((x, sp_V u' x) :: B ++ Y) hf2 hi2 ⟨f0, q, Or.inl ⟨r, B, hN', tb, hC3⟩⟩ ta l0 z2 (by rw [eW, eH]; simp) ek (by omega) (Or.inr (by have := nf (by omega); omega)) K2
theorem sp_bring_ok {post : Int32 → St2 → Prop} {u : St2} {x k : Nat} {W : sp_Ls} (h : sp_t u 0 x W) (hu : sp_un W) (z : sp_Z u) (hW : W.length ≤ 48) (hk : k < W.length)
    (K : ∀ u' y a b A B, sp_N u' 0 y a b A B W → A.length = k → sp_t u' y a A → sp_t u' y b B → sp_f0 u' y → sp_Z u' → sp_fr u u' W → sp_ss u u' → post (nI y) u') : wpX_bring post u (nI x) (nI k) := by
  have x0 : x ≠ 0 := by
    intro e
    subst e
    rw [sp_t_0 h, List.length_nil] at hk
    omega
  exact ⟨49, sp_brg hu hW 49 0 0 0 x k u W [] [] (by omega) (by omega) ⟨rfl, rfl⟩ h x0 z (by simp) (by simp) hk (Or.inr (by omega)) K⟩
end
section
def sp_pt (u : St2) (b h : Int32) : St2 := (sp_row u, sp_clp u, b, sp_mid u, h, sp_L u, sp_R u, upd (sp_U u) 0 0, sp_V u, sp_S u, sp_T u, sp_H u, sp_M u, sp_W u, sp_tn u, sp_mi u, sp_ad u, sp_us u, sp_st u, sp_cp u)
def sp_pv (u : St2) (b : Int32) (L U : Nat → Int32) : St2 := (sp_row u, sp_clp u, b, sp_mid u, sp_beh u, L, sp_R u, U, sp_V u, sp_S u, sp_T u, sp_H u, sp_M u, sp_W u, sp_tn u, sp_mi u, sp_ad u, sp_us u, sp_st u, sp_cp u)
/-- row, clip, middle, used are the same -/
def sp_s4 (u u' : St2) : Prop := sp_row u' = sp_row u ∧ sp_clp u' = sp_clp u ∧ sp_mid u' = sp_mid u ∧ sp_us u' = sp_us u
theorem sp_pt_fr (u : St2) (b h : Int32) (X : sp_Ls) : sp_fr u (sp_pt u b h) X := fun y y0 _ => ⟨rfl, pk_un y0⟩
theorem sp_pt_nd (u : St2) (b h : Int32) (y : Nat) : sp_nd (sp_pt u b h) y = sp_nd u y := rfl
theorem sp_pt_Z {u : St2} (b h : Int32) (z : sp_Z u) : sp_Z (sp_pt u b h) := z
theorem sp_pt_t {u : St2} {p x : Nat} {L : sp_Ls} (b h : Int32) (t : sp_t u p x L) : sp_t (sp_pt u b h) p x L := sp_t_fr (X := []) t (sp_pt_fr u _ _ _) (fun y _ => List.not_mem_nil)
theorem sp_ptl {post : St2 → Prop} {v : St2} {y a b : Nat} {A B : sp_Ls} (z : sp_Z v) (y49 : 0 < y ∧ y < 49) (eU : sp_U v y = nI 0) (eL : sp_L v y = nI 0) (eR : sp_R v y = nI b) (f0 : sp_f0 v y) (bv : sp_bv (sp_V v y)) (tb : sp_t v y b B) (ta : sp_t v 0 a A) (yA : y ∉ sp_ids A) (yB : y ∉ sp_ids B) (ea : sp_bef v = nI a)
    (K : ∀ u', sp_bef u' = nI a → sp_beh u' = nI y → sp_t u' 0 a A → sp_t u' 0 y ((y, sp_V v y) :: B) → sp_Z u' → (∀ w, w ≠ 0 → w ≠ y → sp_nd u' w = sp_nd v w ∧ sp_U u' w = sp_U v w) → sp_s4 v u' → post u') :
    wpX_pull (fun w => ∀ U, U = upd (sp_U w) 0 0 → post (sp_row w, sp_clp w, sp_bef w, sp_mid w, nI y, sp_L w, sp_R w, U, sp_V w, sp_S w, sp_T w, sp_H w, sp_M w, sp_W w, sp_tn w, sp_mi w, sp_ad w, sp_us w, sp_st w, sp_cp w)) v (nI y) := by
  refine sp_wpull (u := v) (x := y) (l := 0) (r := b) y49.2 (by omega) (sp_t_lt tb) eL eR (fun h7 => ?_)
  obtain ⟨N2, _, s2⟩ := sp_pl_ok (u := v) (p := 0) h7 z y49 eU eL eR f0.1 f0.2.1 f0.2.2 bv (sp_t_nil _ _) tb List.not_mem_nil yB
  have t2 := sp_t_node N2 (sp_t_nil _ _) s2
  have t3 : sp_t (sp_pl v y 0 b h7) 0 a A := sp_t_fr0 ta (fun w hw => ⟨sp_pl_nd _ _ _ _ _ (fun e => yA (e ▸ hw)), rfl⟩)
  have z2 : sp_Z (sp_pl v y 0 b h7) := sp_Z_nd z (sp_pl_nd _ _ _ _ _ (by omega))
  have n2 : ∀ w, w ≠ y → sp_nd (sp_pl v y 0 b h7) w = sp_nd v w := fun w hw => sp_pl_nd _ _ _ _ _ hw
  have u2 : sp_U (sp_pl v y 0 b h7) = sp_U v := rfl
  have s4 : sp_s4 v (sp_pl v y 0 b h7) := ⟨rfl, rfl, rfl, rfl⟩
  have eb : sp_bef (sp_pl v y 0 b h7) = nI a := ea
  revert t2 t3 z2 n2 u2 s4 eb
  generalize sp_pl v y 0 b h7 = w
  intro t2 t3 z2 n2 u2 s4 eb
  rintro _ rfl
  refine K (sp_pt w (sp_bef w) (nI y)) eb rfl (sp_pt_t _ _ t3) (sp_pt_t _ _ t2) (sp_pt_Z _ _ z2) (fun x x0 hx => ⟨(sp_pt_nd _ _ _ x).trans (n2 x hx), ?_⟩) s4
  rw [← u2]
  exact pk_un x0
theorem sp_part_ok {post : St2 → Prop} {u : St2} {x k : Nat} {W : sp_Ls} (h : sp_t u 0 x W) (hu : sp_un W) (z : sp_Z u) (hW : W.length ≤ 48) (hk : k ≤ W.length)
    (K : ∀ u' b c, sp_bef u' = nI b → sp_beh u' = nI c → sp_t u' 0 b (W.take k) → sp_t u' 0 c (W.drop k) → sp_Z u' → sp_fr u u' W → sp_s4 u u' → post u') : wpX_part post u (nI x) (nI k) := by
  have x49 := sp_t_lt h
  have cx : (nI x).toNatClampNeg = x := nI_clamp (by omega)
  have ix : vp_in (nI x) 49 := vp_in_nI x49 (by decide)
  have gx := (sp_t_G z h).1
  unfold wpX_part
  rw [cx]
  refine pk_eq k 0 (fun e => nm_e ?_) (fun e => And.intro ix (br_c (fun e2 => nm_e ?_) (fun e2 => ?_)))
  · subst e
    exact K (sp_pt u 0 (nI x)) 0 x rfl rfl (sp_t_nil _ _) (sp_t_fr (X := []) h (sp_pt_fr u _ _ _) (fun y _ => List.not_mem_nil)) z (sp_pt_fr u _ _ _) ⟨rfl, rfl, rfl, rfl⟩
  · have e3 : k = W.length := by
      have e4 : nI k = nI W.length := e2.trans gx
      exact (nI_eq (by omega) (by omega)).mp e4
    subst e3
    refine K (sp_pt u (nI x) 0) x 0 rfl rfl ?_ ?_ z (sp_pt_fr u _ _ _) ⟨rfl, rfl, rfl, rfl⟩
    · rw [List.take_length]
      exact sp_t_fr (X := []) h (sp_pt_fr u _ _ _) (fun y _ => List.not_mem_nil)
    · rw [List.drop_length]
      exact sp_t_nil _ _
  · have kl : k < W.length := by
      rcases Nat.lt_or_ge k W.length with g | g
      · exact g
      · have e3 : k = W.length := by omega
        subst e3
        exact absurd gx.symm e2
    refine sp_bring_ok (u := u) h hu z hW kl (fun u1 y a b A B hN lA ta tb f0 z1 fr ss => ?_)
    have y49 := hN.1
    have bvy : sp_bv (sp_V u1 y) := sp_N_bv hN
    have a49 := sp_t_lt ta
    have cy : (nI y).toNatClampNeg = y := nI_clamp (by omega)
    have ca : (nI a).toNatClampNeg = a := nI_clamp (by omega)
    have iy : vp_in (nI y) 49 := vp_in_nI y49.2 (by decide)
    have ia : vp_in (nI a) 49 := vp_in_nI a49 (by decide)
    have eW := sp_N_l hN f0
    have uW := hu
    rw [eW] at uW
    obtain ⟨uA, uB, yA, yB, dj⟩ := sp_un_mid uW
    have i := sp_N_ids hN
    have ya : a ≠ y := fun e => by
      have := sp_t_mem ta (by omega)
      exact yA (e ▸ this)
    show vp_in (nI y) 49 ∧ ∀ f, f = sp_L u1 (nI y).toNatClampNeg → _
    rw [cy]
    refine ⟨iy, nm_r (e' := nI a) hN.2.2.1 ?_⟩
    rw [ca]
    refine And.intro ia (nm_e (And.intro iy (nm_e ?_)))
    have ndv : ∀ w, w ≠ y → sp_nd (sp_pv u1 (nI a) (upd (sp_L u1) y 0) (upd (sp_U u1) a 0)) w = sp_nd u1 w := fun w hw => sp_nd_i.mpr ⟨pk_un hw, rfl, rfl, rfl, rfl, rfl, rfl, rfl, rfl, rfl⟩
    have zv : sp_Z (sp_pv u1 (nI a) (upd (sp_L u1) y 0) (upd (sp_U u1) a 0)) := z1
    have tbv : sp_t (sp_pv u1 (nI a) (upd (sp_L u1) y 0) (upd (sp_U u1) a 0)) y b B := sp_t_fr0 tb (fun w hw => ⟨ndv w (fun e => yB (e ▸ hw)), pk_un (fun e => by
      have w0 := sp_t_ids tb hw
      exact dj w (e ▸ sp_t_mem ta (by omega)) hw)⟩)
    have tav : sp_t (sp_pv u1 (nI a) (upd (sp_L u1) y 0) (upd (sp_U u1) a 0)) 0 a A := sp_t_mv ta uA (fun w hw => ndv w (fun e => yA (e ▸ hw))) (fun w hw e => pk_un e) (fun _ => pk_us)
    have bfv : sp_bef (sp_pv u1 (nI a) (upd (sp_L u1) y 0) (upd (sp_U u1) a 0)) = nI a := rfl
    have eUv : sp_U (sp_pv u1 (nI a) (upd (sp_L u1) y 0) (upd (sp_U u1) a 0)) y = nI 0 := (pk_un (Ne.symm ya)).trans hN.2.1
    have eLv : sp_L (sp_pv u1 (nI a) (upd (sp_L u1) y 0) (upd (sp_U u1) a 0)) y = nI 0 := pk_us
    have eRv : sp_R (sp_pv u1 (nI a) (upd (sp_L u1) y 0) (upd (sp_U u1) a 0)) y = nI b := hN.2.2.2.1
    have f0v : sp_f0 (sp_pv u1 (nI a) (upd (sp_L u1) y 0) (upd (sp_U u1) a 0)) y := f0
    have Vv : sp_V (sp_pv u1 (nI a) (upd (sp_L u1) y 0) (upd (sp_U u1) a 0)) y = sp_V u1 y := rfl
    have Uv : ∀ w, w ≠ a → sp_U (sp_pv u1 (nI a) (upd (sp_L u1) y 0) (upd (sp_U u1) a 0)) w = sp_U u1 w := fun w hw => pk_un hw
    have sv : sp_s4 u1 (sp_pv u1 (nI a) (upd (sp_L u1) y 0) (upd (sp_U u1) a 0)) := ⟨rfl, rfl, rfl, rfl⟩
    refine sp_ptl (v := sp_pv u1 (nI a) (upd (sp_L u1) y 0) (upd (sp_U u1) a 0)) (a := a) (b := b) (A := A) (B := B) zv y49 eUv eLv eRv f0v (by rw [Vv]; exact bvy) tbv tav yA yB bfv ?_
    revert zv ndv tbv tav bfv eUv eLv eRv f0v Vv Uv sv
    generalize sp_pv u1 (nI a) (upd (sp_L u1) y 0) (upd (sp_U u1) a 0) = v
    intro ndv zv tbv tav bfv eUv eLv eRv f0v Vv Uv sv u' eb eh t1 t2 z3 nu s4
    rw [Vv] at t2
    refine K u' a y eb eh ?_ ?_ z3 ?_ ⟨s4.1.trans (sv.1.trans ss.1), s4.2.1.trans (sv.2.1.trans ss.2.1), s4.2.2.1.trans (sv.2.2.1.trans ss.2.2.2.1), s4.2.2.2.trans (sv.2.2.2.trans ss.2.2.2.2.2)⟩
    · rw [eW, ← lA, List.take_left]
      exact t1
    · rw [eW, ← lA, List.drop_left]
      exact t2
    · refine sp_fr_t fr (fun w w0 hw => ?_)
      have wy : w ≠ y := fun e => hw ((i w).mpr (Or.inr (Or.inl e)))
      have wa : w ≠ a := fun e => hw ((i w).mpr (Or.inl (e ▸ sp_t_mem ta (e ▸ w0))))
      exact ⟨(nu w w0 wy).1.trans (ndv w wy), (nu w w0 wy).2.trans (Uv w wa)⟩
theorem sp_join_ok {post : Int32 → St2 → Prop} {u : St2} {a b : Nat} {A B : sp_Ls} (ha : sp_t u 0 a A) (hb : sp_t u 0 b B) (hu : sp_un (A ++ B)) (z : sp_Z u) (hA : A.length ≤ 48)
    (K : ∀ u' r, sp_t u' 0 r (A ++ B) → sp_Z u' → sp_fr u u' (A ++ B) → sp_ss u u' → post (nI r) u') : wpX_join post u (nI a) (nI b) := by
  have a49 := sp_t_lt ha
  have b49 := sp_t_lt hb
  have ca : (nI a).toNatClampNeg = a := nI_clamp (by omega)
  have cb : (nI b).toNatClampNeg = b := nI_clamp (by omega)
  have ia : vp_in (nI a) 49 := vp_in_nI a49 (by decide)
  have ib : vp_in (nI b) 49 := vp_in_nI b49 (by decide)
  have hab := sp_un_app.mp hu
  unfold wpX_join
  refine pk_eq a 0 (fun e => ?_) (fun ea => pk_eq b 0 (fun e => ?_) (fun eb => And.intro ia ?_))
  · subst e
    have e2 := sp_t_0 ha
    subst e2
    exact K u b hb z (sp_fr_r u _) (sp_ss_r u)
  · subst e
    have e2 := sp_t_0 hb
    subst e2
    refine K u a ?_ z (sp_fr_r u _) (sp_ss_r u)
    rw [List.append_nil]
    exact ha
  · have an := sp_t_nn ha ea
    have l1 : 0 < A.length := List.length_pos_iff.mpr an
    rw [ca]
    have e1 : sp_S u a - 1 = nI (A.length - 1) := by
      rw [(sp_t_G z ha).1]
      show nI A.length - nI 1 = _
      rw [pk_sub (by omega)]
    rw [show u.2.2.2.2.2.2.2.2.2.1 a - 1 = nI (A.length - 1) from e1]
    refine sp_bring_ok (u := u) ha hab.1 z hA (by omega) (fun u1 y l r A1 B1 hN lA ta tb f0 z1 fr ss => ?_)
    have y49 := hN.1
    have bvy : sp_bv (sp_V u1 y) := sp_N_bv hN
    have cy : (nI y).toNatClampNeg = y := nI_clamp (by omega)
    have iy : vp_in (nI y) 49 := vp_in_nI y49.2 (by decide)
    have eA := sp_N_l hN f0
    have B0 : B1 = [] := by
      have l2 : A.length = A1.length + 1 + B1.length := by rw [eA, List.length_append, List.length_cons]; omega
      exact List.length_eq_zero_iff.mp (by omega)
    subst B0
    have i := sp_N_ids hN
    have yA : y ∈ sp_ids A := (i y).mpr (Or.inr (Or.inl rfl))
    have hb1 : sp_t u1 0 b B := sp_t_fr hb fr (fun w h1 h2 => hab.2.2 w h2 h1)
    have bB := sp_t_mem hb eb
    have yb : y ≠ b := fun e => hab.2.2 y yA (e ▸ bB)
    obtain ⟨uA1, _, yA1, _, _⟩ := sp_N_un hN hab.1
    unfold wpX_setRight
    show vp_in (nI y) 49 ∧ ∀ f, f = upd (sp_R u1) (nI y).toNatClampNeg (nI b) → vp_in (nI b) 49 ∧ ∀ g, g = upd (sp_U u1) (nI b).toNatClampNeg (nI y) → _
    rw [cy, cb]
    refine ⟨iy, nm_e (And.intro ib (nm_e ?_))⟩
    have ndv : ∀ w, w ≠ y → sp_nd (sp_mk u1 (sp_L u1) (upd (sp_R u1) y (nI b)) (upd (sp_U u1) b (nI y))) w = sp_nd u1 w := fun w hw => sp_ndmk rfl (pk_un hw)
    have zv : sp_Z (sp_mk u1 (sp_L u1) (upd (sp_R u1) y (nI b)) (upd (sp_U u1) b (nI y))) := z1
    have tlv : sp_t (sp_mk u1 (sp_L u1) (upd (sp_R u1) y (nI b)) (upd (sp_U u1) b (nI y))) y l A1 := sp_t_fr0 ta (fun w hw => ⟨ndv w (fun e => yA1 (e ▸ hw)), pk_un (fun e => hab.2.2 w ((i w).mpr (Or.inl hw)) (e ▸ bB))⟩)
    have tbv : sp_t (sp_mk u1 (sp_L u1) (upd (sp_R u1) y (nI b)) (upd (sp_U u1) b (nI y))) y b B := sp_t_mv hb1 hab.2.1 (fun w hw => ndv w (fun e => hab.2.2 y yA (e ▸ hw))) (fun w hw e => pk_un e) (fun _ => pk_us)
    refine sp_wpull (u := sp_mk u1 (sp_L u1) (upd (sp_R u1) y (nI b)) (upd (sp_U u1) b (nI y))) (x := y) (l := l) (r := b) y49.2 (sp_t_lt ta) b49 hN.2.2.1 pk_us (fun h7 => ?_)
    obtain ⟨N2, s1, s2⟩ := sp_pl_ok (u := sp_mk u1 (sp_L u1) (upd (sp_R u1) y (nI b)) (upd (sp_U u1) b (nI y))) (p := 0) h7 zv y49 ((pk_un yb).trans hN.2.1) hN.2.2.1 pk_us f0.1 f0.2.1 f0.2.2 bvy tlv tbv yA1 (hab.2.2 y yA)
    have ty := sp_t_node N2 s1 s2
    refine K (sp_pl (sp_mk u1 (sp_L u1) (upd (sp_R u1) y (nI b)) (upd (sp_U u1) b (nI y))) y l b h7) y ?_ (sp_Z_nd zv (sp_pl_nd _ _ _ _ _ (by omega))) ?_ ss
    · rw [eA, List.append_assoc]
      exact ty
    · refine sp_fr_t (sp_fr_m fr (fun w hw => by rw [sp_ids_app]; exact List.mem_append.mpr (Or.inl hw))) (fun w w0 hw => ?_)
      rw [sp_ids_app, List.mem_append] at hw
      have wy : w ≠ y := fun e => hw (Or.inl (e ▸ yA))
      have wb : w ≠ b := fun e => hw (Or.inr (e ▸ bB))
      exact ⟨(sp_pl_nd _ _ _ _ _ wy).trans (ndv w wy), pk_un wb⟩
theorem sp_take_un {W : sp_Ls} (k : Nat) (h : sp_un W) : sp_un (W.take k) ∧ sp_un (W.drop k) ∧ ∀ y, y ∈ sp_ids (W.take k) → y ∉ sp_ids (W.drop k) := by
  rw [← List.take_append_drop k W] at h
  exact sp_un_app.mp h
theorem sp_take_in {W : sp_Ls} {k y : Nat} (h : y ∈ sp_ids (W.take k)) : y ∈ sp_ids W := by
  rw [← List.take_append_drop k W, sp_ids_app]
  exact List.mem_append.mpr (Or.inl h)
theorem sp_drop_in {W : sp_Ls} {k y : Nat} (h : y ∈ sp_ids (W.drop k)) : y ∈ sp_ids W := by
  rw [← List.take_append_drop k W, sp_ids_app]
  exact List.mem_append.mpr (Or.inr h)
def sp_om (u : St2) (m h : Int32) : St2 := (sp_row u, sp_clp u, sp_bef u, m, h, sp_L u, sp_R u, sp_U u, sp_V u, sp_S u, sp_T u, sp_H u, sp_M u, sp_W u, sp_tn u, sp_mi u, sp_ad u, sp_us u, sp_st u, sp_cp u)
/-- row, clip, used are the same -/
def sp_s3 (u u' : St2) : Prop := sp_row u' = sp_row u ∧ sp_clp u' = sp_clp u ∧ sp_us u' = sp_us u
theorem sp_open_ok {post : St2 → Prop} {u : St2} {r i j : Nat} {W : sp_Ls} (hr : sp_row u = nI r) (h : sp_t u 0 r W) (hu : sp_un W) (z : sp_Z u) (hW : W.length ≤ 48) (hi : i ≤ j) (hj : j ≤ W.length)
    (K : ∀ u' b m c, sp_bef u' = nI b → sp_mid u' = nI m → sp_beh u' = nI c → sp_t u' 0 b (W.take i) → sp_t u' 0 m ((W.take j).drop i) → sp_t u' 0 c (W.drop j) → sp_Z u' → sp_fr u u' W → sp_s3 u u' → post u') : wpX_open post u (nI i) (nI j) := by
  unfold wpX_open
  show wpX_part _ u (sp_row u) (nI j)
  rw [hr]
  refine sp_part_ok (u := u) h hu z hW hj (fun u1 b c eb ec tb tc z1 fr1 s1 => ?_)
  have un := sp_take_un j hu
  have e0 : sp_bef u1 = nI b := eb
  show wpX_part _ u1 (sp_bef u1) (nI i)
  rw [eb]
  refine sp_part_ok (u := u1) tb un.1 z1 (by rw [List.length_take]; omega) (by rw [List.length_take]; omega) (fun u2 b2 c2 eb2 ec2 tb2 tc2 z2 fr2 s2 => ?_)
  refine K (sp_om u2 (sp_beh u2) (sp_beh u1)) b2 c2 c eb2 ec2 ec ?_ ?_ ?_ z2 ?_ ⟨s2.1.trans s1.1, s2.2.1.trans s1.2.1, s2.2.2.2.trans s1.2.2.2⟩
  · rw [List.take_take, Nat.min_eq_left hi] at tb2
    exact sp_t_fr0 tb2 (fun y _ => ⟨rfl, rfl⟩)
  · exact sp_t_fr0 tc2 (fun y _ => ⟨rfl, rfl⟩)
  · exact sp_t_fr0 (sp_t_fr tc fr2 (fun y h1 h2 => un.2.2 y h2 h1)) (fun y _ => ⟨rfl, rfl⟩)
  · exact sp_fr_t fr1 (sp_fr_t (sp_fr_m fr2 (fun y hy => sp_take_in hy)) (fun y _ _ => ⟨rfl, rfl⟩))
def sp_cl (u : St2) (r : Int32) (U : Nat → Int32) : St2 := (r, sp_clp u, sp_bef u, sp_mid u, sp_beh u, sp_L u, sp_R u, U, sp_V u, sp_S u, sp_T u, sp_H u, sp_M u, sp_W u, sp_tn u, sp_mi u, sp_ad u, sp_us u, sp_st u, sp_cp u)
def sp_s2 (u u' : St2) : Prop := sp_clp u' = sp_clp u ∧ sp_us u' = sp_us u
theorem sp_close_ok {post : St2 → Prop} {u : St2} {b m c : Nat} {A B C : sp_Ls} (eb : sp_bef u = nI b) (em : sp_mid u = nI m) (ec : sp_beh u = nI c) (tb : sp_t u 0 b A) (tm : sp_t u 0 m B) (tc : sp_t u 0 c C) (hu : sp_un (A ++ B ++ C)) (z : sp_Z u) (hl : A.length + B.length ≤ 48)
    (K : ∀ u' r, sp_row u' = nI r → sp_t u' 0 r (A ++ B ++ C) → sp_Z u' → sp_fr u u' (A ++ B ++ C) → sp_s2 u u' → post u') : wpX_close post u := by
  have h1 := sp_un_app.mp hu
  unfold wpX_close
  show wpX_join _ u (sp_bef u) (sp_mid u)
  rw [eb, em]
  refine sp_join_ok (u := u) tb tm h1.1 z (by omega) (fun u1 r t1 z1 fr1 s1 => ?_)
  show wpX_join _ u1 (nI r) (sp_beh u1)
  rw [s1.2.2.2.2.1.trans ec]
  refine sp_join_ok (u := u1) t1 (sp_t_fr tc fr1 (fun y h2 h3 => h1.2.2 y h3 h2)) hu z1 (by rw [List.length_append]; omega) (fun u2 r2 t2 z2 fr2 s2 => ?_)
  have r49 := sp_t_lt t2
  have cr : (nI r2).toNatClampNeg = r2 := nI_clamp (by omega)
  show vp_in (nI r2) 49 ∧ ∀ g, g = upd (sp_U u2) (nI r2).toNatClampNeg 0 → _
  rw [cr]
  refine ⟨vp_in_nI r49 (by decide), nm_e ?_⟩
  have eU : r2 ≠ 0 → sp_U u2 r2 = 0 := by
    intro h0
    obtain ⟨_, _, _, _, hN, _⟩ := sp_t_inv t2 h0
    exact hN.2.1
  have sU : ∀ y, y ≠ 0 → upd (sp_U u2) r2 0 y = sp_U u2 y := by
    intro y y0
    by_cases e : y = r2
    · subst e
      rw [pk_us, eU y0]
    · exact pk_un e
  refine K (sp_cl u2 (nI r2) (upd (sp_U u2) r2 0)) r2 rfl ?_ z2 ?_ ⟨s2.2.1.trans s1.2.1, s2.2.2.2.2.2.trans s1.2.2.2.2.2⟩
  · exact sp_t_fr0 t2 (fun y hy => ⟨rfl, sU y (by have := sp_t_ids t2 hy; omega)⟩)
  · refine sp_fr_t (sp_fr_m fr1 (fun y hy => by rw [sp_ids_app]; exact List.mem_append.mpr (Or.inl hy))) (sp_fr_t fr2 (fun y y0 _ => ⟨rfl, sU y y0⟩))
end
section
theorem sp_un_p {A B : sp_Ls} (h : A.Perm B) (hu : sp_un A) : sp_un B := (h.map Prod.fst).nodup_iff.mp hu
/-- the whole: row L, clip C -/
def sp_I (u : St2) (L C : sp_Ls) : Prop := sp_Z u ∧ (∃ r, sp_row u = nI r ∧ sp_t u 0 r L) ∧ (∃ c, sp_clp u = nI c ∧ sp_t u 0 c C) ∧ sp_un (L ++ C) ∧ L.length + C.length ≤ 48
/-- opened: before A, middle B, behind D, clip C -/
def sp_O (u : St2) (A B D C : sp_Ls) : Prop := sp_Z u ∧ (∃ b, sp_bef u = nI b ∧ sp_t u 0 b A) ∧ (∃ m, sp_mid u = nI m ∧ sp_t u 0 m B) ∧ (∃ c, sp_beh u = nI c ∧ sp_t u 0 c D) ∧ (∃ k, sp_clp u = nI k ∧ sp_t u 0 k C) ∧ sp_un (A ++ B ++ D ++ C) ∧ A.length + B.length + D.length + C.length ≤ 48
theorem sp_tdd {W : sp_Ls} {i j : Nat} (h : i ≤ j) : W.take i ++ (W.take j).drop i ++ W.drop j = W := by
  have e : W.take i = (W.take j).take i := by rw [List.take_take, Nat.min_eq_left h]
  rw [e, List.take_append_drop, List.take_append_drop]
theorem sp_openI {post : St2 → Prop} {u : St2} {i j : Nat} {L C : sp_Ls} (h : sp_I u L C) (hi : i ≤ j) (hj : j ≤ L.length) (K : ∀ u', sp_O u' (L.take i) ((L.take j).drop i) (L.drop j) C → sp_us u' = sp_us u → post u') : wpX_open post u (nI i) (nI j) := by
  obtain ⟨z, ⟨r, er, tr⟩, ⟨c, ec, tc⟩, hu, hl⟩ := h
  have hd := sp_un_app.mp hu
  refine sp_open_ok er tr hd.1 z (by omega) hi hj (fun u' b m d eb em ed tb tm td z' fr s3 => K u' ⟨z', ⟨b, eb, tb⟩, ⟨m, em, tm⟩, ⟨d, ed, td⟩, ⟨c, s3.2.1.trans ec, sp_t_fr tc fr (fun y h1 h2 => hd.2.2 y h2 h1)⟩, ?_, ?_⟩ s3.2.2)
  · rw [sp_tdd hi]
    exact hu
  · have := congrArg List.length (sp_tdd (W := L) hi)
    simp only [List.length_append] at this
    omega
theorem sp_closeI {post : St2 → Prop} {u : St2} {A B D C : sp_Ls} (h : sp_O u A B D C) (K : ∀ u', sp_I u' (A ++ B ++ D) C → sp_us u' = sp_us u → post u') : wpX_close post u := by
  obtain ⟨z, ⟨b, eb, tb⟩, ⟨m, em, tm⟩, ⟨d, ed, td⟩, ⟨c, ec, tc⟩, hu, hl⟩ := h
  have hd := sp_un_app.mp hu
  refine sp_close_ok eb em ed tb tm td hd.1 z (by omega) (fun u' r er tr z' fr s2 => K u' ⟨z', ⟨r, er, tr⟩, ⟨c, s2.1.trans ec, sp_t_fr tc fr (fun y h1 h2 => hd.2.2 y h2 h1)⟩, hu, ?_⟩ s2.2)
  simp only [List.length_append]
  omega
theorem sp_O_mid {u u' : St2} {A B B' D C : sp_Ls} (h : sp_O u A B D C) (on : sp_on u u' B) (hi : sp_ids B' = sp_ids B ∨ sp_ids B' = (sp_ids B).reverse) (ht : ∀ m, sp_mid u = nI m → sp_t u 0 m B → sp_t u' 0 m B') : sp_O u' A B' D C := by
  obtain ⟨z, ⟨b, eb, tb⟩, ⟨m, em, tm⟩, ⟨d, ed, td⟩, ⟨c, ec, tc⟩, hu, hl⟩ := h
  have h1 := sp_un_app.mp hu
  have h2 := sp_un_app.mp h1.1
  have h3 := sp_un_app.mp h2.1
  have s := on.2.2
  have m0 : 0 ∉ sp_ids B := fun h0 => by have := sp_t_ids tm h0; omega
  refine ⟨sp_Z_nd z (on.1 0 m0), ⟨b, s.2.2.1.trans eb, sp_t_on tb on (fun y hy => h3.2.2 y hy)⟩, ⟨m, s.2.2.2.1.trans em, ht m em tm⟩, ⟨d, s.2.2.2.2.1.trans ed, sp_t_on td on (fun y hy h4 => h2.2.2 y (by rw [sp_ids_app]; exact List.mem_append.mpr (Or.inr h4)) hy)⟩, ⟨c, s.2.1.trans ec, sp_t_on tc on (fun y hy h4 => h1.2.2 y (by rw [sp_ids_app, sp_ids_app]; exact List.mem_append.mpr (Or.inl (List.mem_append.mpr (Or.inr h4)))) hy)⟩, ?_, ?_⟩
  · have hp : (sp_ids B).Perm (sp_ids B') := by
      rcases hi with e | e
      · rw [e]
      · rw [e]; exact (List.reverse_perm _).symm
    unfold sp_un at hu ⊢
    simp only [sp_ids_app] at hu ⊢
    exact (((hp.append_left _).append_right _).append_right _).nodup_iff.mp hu
  · have : B'.length = B.length := by
      have e : (sp_ids B').length = (sp_ids B).length := by
        rcases hi with e | e
        · rw [e]
        · rw [e, List.length_reverse]
      unfold sp_ids at e
      rw [List.length_map, List.length_map] at e
      exact e
    omega
theorem sp_O_un {u : St2} {A B D C : sp_Ls} (h : sp_O u A B D C) : sp_un B := (sp_un_app.mp (sp_un_app.mp (sp_un_app.mp h.2.2.2.2.2.1).1).1).2.1
theorem sp_turnI {post : St2 → Prop} {u : St2} {A B D C : sp_Ls} (h : sp_O u A B D C) (K : ∀ u', sp_O u' A B.reverse D C → post u') : wpX_turnAll post u (sp_mid u) := by
  obtain ⟨m, em, tm⟩ := h.2.2.1
  rw [em]
  refine sp_turn_ok tm (sp_O_un h) (fun u' t' on => K u' (sp_O_mid h on (Or.inr (sp_ids_rev B)) (fun m' e' _ => ?_)))
  have : m' = m := (nI_eq (by have := sp_t_lt ‹sp_t u 0 m' B›; omega) (by have := sp_t_lt tm; omega)).mp (e'.symm.trans em)
  rw [this]
  exact t'
theorem sp_negI {post : St2 → Prop} {u : St2} {A B D C : sp_Ls} (h : sp_O u A B D C) (K : ∀ u', sp_O u' A (B.map sp_ng) D C → post u') : wpX_negateAll post u (sp_mid u) := by
  obtain ⟨m, em, tm⟩ := h.2.2.1
  rw [em]
  refine sp_neg_ok tm (sp_O_un h) (fun u' t' on => K u' (sp_O_mid h on (Or.inl (sp_ids_ng B)) (fun m' e' _ => ?_)))
  have : m' = m := (nI_eq (by have := sp_t_lt ‹sp_t u 0 m' B›; omega) (by have := sp_t_lt tm; omega)).mp (e'.symm.trans em)
  rw [this]
  exact t'
theorem sp_addI {post : St2 → Prop} {u : St2} {A B D C : sp_Ls} {d : Int32} (h : sp_O u A B D C) (hb : sp_bd (B.map (sp_up d))) (K : ∀ u', sp_O u' A (B.map (sp_up d)) D C → post u') : wpX_addAll post u (sp_mid u) d := by
  obtain ⟨m, em, tm⟩ := h.2.2.1
  rw [em]
  refine sp_add_ok tm (sp_O_un h) hb (fun u' t' on => K u' (sp_O_mid h on (Or.inl (sp_ids_up d B)) (fun m' e' _ => ?_)))
  have : m' = m := (nI_eq (by have := sp_t_lt ‹sp_t u 0 m' B›; omega) (by have := sp_t_lt tm; omega)).mp (e'.symm.trans em)
  rw [this]
  exact t'
theorem sp_O_G {u : St2} {A B D C : sp_Ls} (h : sp_O u A B D C) : vp_in (sp_mid u) 49 ∧ sp_G (sp_S u (sp_mid u).toNatClampNeg) (sp_T u (sp_mid u).toNatClampNeg) (sp_M u (sp_mid u).toNatClampNeg) (sp_W u (sp_mid u).toNatClampNeg) B := by
  obtain ⟨m, em, tm⟩ := h.2.2.1
  have m49 := sp_t_lt tm
  rw [em, nI_clamp (by omega)]
  exact ⟨vp_in_nI m49 (by decide), sp_t_G h.1 tm⟩
theorem sp_I_row {u : St2} {L C : sp_Ls} (h : sp_I u L C) : vp_in (sp_row u) 49 ∧ sp_S u (sp_row u).toNatClampNeg = nI L.length := by
  obtain ⟨z, ⟨r, er, tr⟩, _⟩ := h
  have r49 := sp_t_lt tr
  rw [er, nI_clamp (by omega)]
  exact ⟨vp_in_nI r49 (by decide), (sp_t_G z tr).1⟩
theorem sp_I_clp {u : St2} {L C : sp_Ls} (h : sp_I u L C) : vp_in (sp_clp u) 49 ∧ sp_S u (sp_clp u).toNatClampNeg = nI C.length := by
  obtain ⟨z, _, ⟨r, er, tr⟩, _⟩ := h
  have r49 := sp_t_lt tr
  rw [er, nI_clamp (by omega)]
  exact ⟨vp_in_nI r49 (by decide), (sp_t_G z tr).1⟩
theorem sp_I_len {u : St2} {L C : sp_Ls} (h : sp_I u L C) : L.length + C.length ≤ 48 := h.2.2.2.2
theorem sp_bad_ok {post : Int32 → Prop} {u : St2} {L C : sp_Ls} {i j : Nat} (h : sp_I u L C) (hi : i ≤ j) (hj : j ≤ L.length) (K : post 0) : wpX_bad post u (nI i) (nI j) := by
  have hr := sp_I_row h
  have hl := sp_I_len h
  unfold wpX_bad
  refine br_f (nI_pos (by omega)) (br_f (nI_nlt hi (by omega)) (And.intro hr.1 (br_t ?_ K)))
  show nI j ≤ sp_S u (sp_row u).toNatClampNeg
  rw [hr.2]
  exact nI_le hj (by omega)
theorem sp_rel_ok {post : St2 → Prop} {u : St2} (K : post u) : wpX_release post u 0 := by
  unfold wpX_release
  exact br_t rfl ⟨1, br_f (by decide) (br_t (by decide) K)⟩
theorem sp_size_ok {post : Int32 → Prop} {u : St2} {L C : sp_Ls} (h : sp_I u L C) (K : post (nI L.length)) : wpX_size post u := by
  have hr := sp_I_row h
  unfold wpX_size
  refine And.intro hr.1 ?_
  show post (sp_S u (sp_row u).toNatClampNeg)
  rw [hr.2]
  exact K
theorem sp_clip_ok {post : Int32 → Prop} {u : St2} {L C : sp_Ls} (h : sp_I u L C) (K : post (nI C.length)) : wpX_clip post u := by
  have hr := sp_I_clp h
  unfold wpX_clip
  refine And.intro hr.1 ?_
  show post (sp_S u (sp_clp u).toNatClampNeg)
  rw [hr.2]
  exact K
theorem sp_sum_ok {post : Int32 → St2 → Prop} {u : St2} {L C : sp_Ls} {i j : Nat} (h : sp_I u L C) (hi : i ≤ j) (hj : j ≤ L.length) (K : ∀ u', sp_I u' L C → post (sp_sum ((L.take j).drop i)) u') : wpX_sum post u (nI i) (nI j) := by
  unfold wpX_sum
  refine sp_bad_ok h hi hj (br_t rfl ?_)
  refine sp_openI (u := u) h hi hj (fun u1 O1 _ => ?_)
  have g := sp_O_G O1
  refine And.intro g.1 (nm_r (e' := sp_sum ((L.take j).drop i)) g.2.2.1 ?_)
  refine sp_closeI (u := u1) O1 (fun u2 I2 _ => ?_)
  rw [sp_tdd hi] at I2
  exact K u2 I2
theorem sp_grt_ok {post : Int32 → St2 → Prop} {u : St2} {L C : sp_Ls} {i j : Nat} (h : sp_I u L C) (hi : i < j) (hj : j ≤ L.length) (K : ∀ u' m, sp_I u' L C → sp_hi m ((L.take j).drop i) → post m u') : wpX_greatest post u (nI i) (nI j) := by
  have hl := sp_I_len h
  unfold wpX_greatest
  refine sp_bad_ok h (by omega) hj (br_t rfl (br_f (fun e => ?_) ?_))
  · have := (nI_eq (by omega) (by omega)).mp e
    omega
  refine sp_openI (u := u) h (by omega) hj (fun u1 O1 _ => ?_)
  have g := sp_O_G O1
  refine And.intro g.1 (nm_e ?_)
  refine sp_closeI (u := u1) O1 (fun u2 I2 _ => ?_)
  rw [sp_tdd (by omega)] at I2
  exact K u2 _ I2 g.2.2.2.1
theorem sp_rev_ok {post : Int32 → St2 → Prop} {u : St2} {L C : sp_Ls} {i j : Nat} (h : sp_I u L C) (hi : i ≤ j) (hj : j ≤ L.length) (K : ∀ u', sp_I u' (L.take i ++ ((L.take j).drop i).reverse ++ L.drop j) C → post (nI (j - i)) u') : wpX_reverse post u (nI i) (nI j) := by
  have hl := sp_I_len h
  unfold wpX_reverse
  refine sp_bad_ok h hi hj (br_t rfl ?_)
  refine sp_openI (u := u) h hi hj (fun u1 O1 _ => ?_)
  refine sp_turnI (u := u1) O1 (fun u2 O2 => ?_)
  refine sp_closeI (u := u2) O2 (fun u3 I3 _ => ?_)
  show post (nI j - nI i) u3
  rw [pk_sub hi]
  exact K u3 I3
theorem sp_ngt_ok {post : Int32 → St2 → Prop} {u : St2} {L C : sp_Ls} {i j : Nat} (h : sp_I u L C) (hi : i ≤ j) (hj : j ≤ L.length) (K : ∀ u', sp_I u' (L.take i ++ ((L.take j).drop i).map sp_ng ++ L.drop j) C → post (nI (j - i)) u') : wpX_negate post u (nI i) (nI j) := by
  have hl := sp_I_len h
  unfold wpX_negate
  refine sp_bad_ok h hi hj (br_t rfl ?_)
  refine sp_openI (u := u) h hi hj (fun u1 O1 _ => ?_)
  refine sp_negI (u := u1) O1 (fun u2 O2 => ?_)
  refine sp_closeI (u := u2) O2 (fun u3 I3 _ => ?_)
  show post (nI j - nI i) u3
  rw [pk_sub hi]
  exact K u3 I3
def sp_cm (u : St2) (c m : Int32) : St2 := (sp_row u, c, sp_bef u, m, sp_beh u, sp_L u, sp_R u, sp_U u, sp_V u, sp_S u, sp_T u, sp_H u, sp_M u, sp_W u, sp_tn u, sp_mi u, sp_ad u, sp_us u, sp_st u, sp_cp u)
theorem sp_O_cm {u : St2} {A B D C B' C' : sp_Ls} {c m : Nat} (h : sp_O u A B D C) (hc : sp_t u 0 c C') (hm : sp_t u 0 m B') (hp : (A ++ B ++ D ++ C).Perm (A ++ B' ++ D ++ C')) : sp_O (sp_cm u (nI c) (nI m)) A B' D C' := by
  obtain ⟨z, ⟨b, eb, tb⟩, _, ⟨d, ed, td⟩, _, hu, hl⟩ := h
  have fr : ∀ (x : Nat) (L : sp_Ls), sp_t u 0 x L → sp_t (sp_cm u (nI c) (nI m)) 0 x L := fun x L t => sp_t_fr0 t (fun y _ => ⟨rfl, rfl⟩)
  refine ⟨z, ⟨b, eb, fr _ _ tb⟩, ⟨m, rfl, fr _ _ hm⟩, ⟨d, ed, fr _ _ td⟩, ⟨c, rfl, fr _ _ hc⟩, sp_un_p hp hu, ?_⟩
  have := hp.length_eq
  simp only [List.length_append] at this
  omega
theorem sp_cut_ok {post : Int32 → St2 → Prop} {u : St2} {L : sp_Ls} {i j : Nat} (h : sp_I u L []) (hi : i ≤ j) (hj : j ≤ L.length) (K : ∀ u', sp_I u' (L.take i ++ L.drop j) ((L.take j).drop i) → post (nI (j - i)) u') : wpX_cut post u (nI i) (nI j) := by
  have hl := sp_I_len h
  have ec : sp_clp u = 0 := by
    obtain ⟨_, _, ⟨c, ec, tc⟩, _⟩ := h
    rw [ec, sp_t_e tc]
    rfl
  unfold wpX_cut
  refine sp_bad_ok h hi hj (br_t rfl ?_)
  show wpX_release _ u (sp_clp u)
  rw [ec]
  refine sp_rel_ok (u := u) ?_
  refine sp_openI (u := u) h hi hj (fun u1 O1 _ => ?_)
  obtain ⟨m, em, tm⟩ := O1.2.2.1
  have O2 : sp_O (sp_cm u1 (nI m) (nI 0)) (L.take i) [] (L.drop j) ((L.take j).drop i) := sp_O_cm O1 tm (sp_t_nil _ _) (by
    rw [List.append_nil, List.append_nil, List.append_assoc, List.append_assoc]
    exact List.perm_append_comm.append_left _)
  rw [← em] at O2
  refine sp_closeI (u := sp_cm u1 (sp_mid u1) (nI 0)) O2 (fun u3 I3 _ => ?_)
  rw [List.append_nil] at I3
  have hc := sp_I_clp I3
  show vp_in (sp_clp u3) 49 ∧ post (sp_S u3 (sp_clp u3).toNatClampNeg) u3
  refine ⟨hc.1, ?_⟩
  rw [hc.2, List.length_drop, List.length_take, Nat.min_eq_left hj]
  exact K u3 I3
theorem sp_pst_ok {post : Int32 → St2 → Prop} {u : St2} {L C : sp_Ls} {i : Nat} (h : sp_I u L C) (hi : i ≤ L.length) (K : ∀ u', sp_I u' (L.take i ++ C ++ L.drop i) [] → post (nI (L.length + C.length)) u') : wpX_paste post u (nI i) := by
  have hl := sp_I_len h
  have hr := sp_I_row h
  unfold wpX_paste
  refine br_f (nI_pos (by omega)) (And.intro hr.1 (br_t ?_ ?_))
  · show nI i ≤ sp_S u (sp_row u).toNatClampNeg
    rw [hr.2]
    exact nI_le hi (by omega)
  refine sp_openI (u := u) h (Nat.le_refl i) hi (fun u1 O1 _ => ?_)
  obtain ⟨c, ec, tc⟩ := O1.2.2.2.2.1
  have e0 : (L.take i).drop i = [] := List.drop_eq_nil_of_le (by rw [List.length_take]; omega)
  rw [e0] at O1
  have O2 : sp_O (sp_cm u1 (nI 0) (nI c)) (L.take i) C (L.drop i) [] := sp_O_cm O1 (sp_t_nil _ _) tc (by
    rw [List.append_nil, List.append_nil, List.append_assoc, List.append_assoc]
    exact List.perm_append_comm.append_left _)
  rw [← ec] at O2
  refine sp_closeI (u := sp_cm u1 (nI 0) (sp_clp u1)) O2 (fun u3 I3 _ => ?_)
  have hr3 := sp_I_row I3
  show vp_in (sp_row u3) 49 ∧ post (sp_S u3 (sp_row u3).toNatClampNeg) u3
  refine ⟨hr3.1, ?_⟩
  rw [hr3.2]
  have e : (L.take i ++ C ++ L.drop i).length = L.length + C.length := by
    simp only [List.length_append, List.length_take, List.length_drop]
    omega
  rw [e]
  exact K u3 I3
theorem sp_get_ok {post : Int32 → St2 → Prop} {u : St2} {L C : sp_Ls} {i : Nat} (h : sp_I u L C) (hi : i < L.length) (K : ∀ u' v, (L.map Prod.snd)[i]? = some v → sp_I u' L C → post v u') : wpX_get post u (nI i) := by
  have hl := sp_I_len h
  have hr := sp_I_row h
  obtain ⟨z, ⟨r, er, tr⟩, ⟨c, ec, tc⟩, hu, hl⟩ := h
  have hd := sp_un_app.mp hu
  unfold wpX_get
  refine br_f (nI_pos (by omega)) (And.intro hr.1 (br_t ?_ ?_))
  · show nI i < sp_S u (sp_row u).toNatClampNeg
    rw [hr.2]
    exact nI_lt hi (by omega)
  show wpX_bring _ u (sp_row u) (nI i)
  rw [er]
  refine sp_bring_ok (u := u) tr hd.1 z (by omega) hi (fun u1 y a b A B hN lA ta tb f0 z1 fr ss => ?_)
  have y49 := hN.1
  have cy : (nI y).toNatClampNeg = y := nI_clamp (by omega)
  show vp_in (nI y) 49 ∧ post (sp_V u1 (nI y).toNatClampNeg) (sp_cl u1 (nI y) (sp_U u1))
  rw [cy]
  refine ⟨vp_in_nI y49.2 (by decide), K _ _ ?_ ⟨z1, ⟨y, rfl, sp_t_fr0 (sp_t_node hN ta tb) (fun y _ => ⟨rfl, rfl⟩)⟩, ⟨c, ss.2.1.trans ec, sp_t_fr0 (sp_t_fr tc fr (fun y h1 h2 => hd.2.2 y h2 h1)) (fun y _ => ⟨rfl, rfl⟩)⟩, hu, hl⟩⟩
  have e := sp_N_l hN f0
  rw [e, List.map_append, List.map_cons, ← lA]
  simp
def sp_bm (u : St2) (b m h : Int32) : St2 := (sp_row u, sp_clp u, b, m, h, sp_L u, sp_R u, sp_U u, sp_V u, sp_S u, sp_T u, sp_H u, sp_M u, sp_W u, sp_tn u, sp_mi u, sp_ad u, sp_us u, sp_st u, sp_cp u)
theorem sp_rot_ok {post : Int32 → St2 → Prop} {u : St2} {L C : sp_Ls} {i j k : Nat} (h : sp_I u L C) (hi : i ≤ j) (hj : j ≤ L.length) (hk : k ≤ j - i) (K : ∀ u', sp_I u' (L.take i ++ (((L.take j).drop i).drop k ++ ((L.take j).drop i).take k) ++ L.drop j) C → post 0 u') : wpX_rotate post u (nI i) (nI j) (nI k) := by
  have hl := sp_I_len h
  unfold wpX_rotate
  refine sp_bad_ok h hi hj (br_t rfl (br_f (nI_pos (by omega)) (br_t ?_ ?_)))
  · rw [pk_sub hi]
    exact nI_le hk (by omega)
  refine sp_openI (u := u) h hi hj (fun u1 O1 _ => ?_)
  have lB : ((L.take j).drop i).length = j - i := by rw [List.length_drop, List.length_take]; omega
  revert O1 lB
  generalize (L.take j).drop i = B at K ⊢
  intro O1 lB
  obtain ⟨z, ⟨b, eb, tb⟩, ⟨m, em, tm⟩, ⟨d, ed, td⟩, ⟨c, ec, tc⟩, hu, hl2⟩ := O1
  have h1 := sp_un_app.mp hu
  have h2 := sp_un_app.mp h1.1
  have h3 := sp_un_app.mp h2.1
  have oB : ∀ y, (y ∈ sp_ids (L.take i) ∨ y ∈ sp_ids (L.drop j) ∨ y ∈ sp_ids C) → y ∉ sp_ids B := by
    intro y hy hB
    rcases hy with g | g | g
    · exact h3.2.2 y g hB
    · exact h2.2.2 y (by rw [sp_ids_app]; exact List.mem_append.mpr (Or.inr hB)) g
    · exact h1.2.2 y (by rw [sp_ids_app, sp_ids_app]; exact List.mem_append.mpr (Or.inl (List.mem_append.mpr (Or.inr hB)))) g
  show wpX_part _ u1 (sp_mid u1) (nI k)
  rw [em]
  refine sp_part_ok (u := u1) tm h3.2.1 z (by omega) (by omega) (fun u2 b2 c2 eb2 ec2 tb2 tc2 z2 fr2 s2 => ?_)
  show wpX_join _ u2 (sp_beh u2) (sp_bef u2)
  rw [eb2, ec2]
  have uB := sp_take_un k h3.2.1
  have pB : (B.drop k ++ B.take k).Perm B := by
    have e : B.drop k ++ B.take k = B.drop k ++ B.take k := rfl
    exact List.perm_append_comm.trans (by rw [List.take_append_drop])
  refine sp_join_ok (u := u2) tc2 tb2 (sp_un_p pB.symm h3.2.1) z2 (by rw [List.length_drop]; omega) (fun u3 r3 t3 z3 fr3 s3 => ?_)
  have fr13 : sp_fr u1 u3 B := sp_fr_t fr2 (sp_fr_m fr3 (fun y hy => by
    unfold sp_ids at hy ⊢
    exact (pB.map Prod.fst).mem_iff.mp hy))
  have O4 : sp_O (sp_bm u3 (nI b) (nI r3) (nI d)) (L.take i) (B.drop k ++ B.take k) (L.drop j) C := by
    have fr : ∀ (x : Nat) (X : sp_Ls), sp_t u3 0 x X → sp_t (sp_bm u3 (nI b) (nI r3) (nI d)) 0 x X := fun x X t => sp_t_fr0 t (fun y _ => ⟨rfl, rfl⟩)
    refine ⟨z3, ⟨b, rfl, fr _ _ (sp_t_fr tb fr13 (fun y hy => oB y (Or.inl hy)))⟩, ⟨r3, rfl, fr _ _ t3⟩, ⟨d, rfl, fr _ _ (sp_t_fr td fr13 (fun y hy => oB y (Or.inr (Or.inl hy))))⟩, ⟨c, s3.2.1.trans (s2.2.1.trans ec), fr _ _ (sp_t_fr tc fr13 (fun y hy => oB y (Or.inr (Or.inr hy))))⟩, sp_un_p (((pB.symm.append_left _).append_right _).append_right _) hu, ?_⟩
    have := pB.length_eq
    omega
  rw [← eb, ← ed] at O4
  refine sp_closeI (u := sp_bm u3 (sp_bef u1) (nI r3) (sp_beh u1)) O4 (fun u5 I5 _ => ?_)
  exact K u5 I5
theorem sp_rse_ok {post : Int32 → St2 → Prop} {u : St2} {L C : sp_Ls} {i j : Nat} {d : Int32} (h : sp_I u L C) (hi : i < j) (hj : j ≤ L.length) (hd : sp_bv d) (hb : ∀ e, e ∈ (L.take j).drop i → -1000 ≤ e.2.toInt ∧ e.2.toInt ≤ 1000) (hd2 : -1000 ≤ d.toInt ∧ d.toInt ≤ 1000) (K : ∀ u', sp_I u' (L.take i ++ ((L.take j).drop i).map (sp_up d) ++ L.drop j) C → post (nI (j - i)) u') : wpX_raise post u (nI i) (nI j) d := by
  have hl := sp_I_len h
  unfold wpX_raise
  refine sp_bad_ok h (by omega) hj (br_t rfl ?_)
  have c6 : (1000000 : Int32).toInt = 1000000 := by decide
  have c7 : (-1000000 : Int32).toInt = -1000000 := by decide
  unfold wpX_badNumber
  refine br_f (fun e => ?_) (br_t ?_ (br_t rfl ?_))
  · have := Int32.lt_iff_toInt_lt.mp e
    omega
  · refine Int32.le_iff_toInt_le.mpr ?_
    omega
  have sm : ∀ v : Int32, -1000 ≤ v.toInt → v.toInt ≤ 1000 → (v + d).toInt = v.toInt + d.toInt := by
    intro v h1 h2
    rw [Int32.toInt_add]
    simp only [Int.bmod]
    split <;> omega
  refine sp_openI (u := u) h (by omega) hj (fun u1 O1 _ => ?_)
  have lB : ((L.take j).drop i).length = j - i := by rw [List.length_drop, List.length_take]; omega
  have bd : sp_bd (((L.take j).drop i).map (sp_up d)) := by
    intro e he
    obtain ⟨a, ha, rfl⟩ := List.mem_map.mp he
    have h1 := hb a ha
    have h2 := sm a.2 h1.1 h1.2
    show -1000000 ≤ (a.2 + d).toInt ∧ (a.2 + d).toInt ≤ 1000000
    omega
  have g := sp_O_G O1
  obtain ⟨gi, _, _, gh, gl⟩ := g
  have nn : (L.take j).drop i ≠ [] := fun e => by rw [e] at lB; simp only [List.length_nil] at lB; omega
  have G : ∀ m : Int32, (((L.take j).drop i = [] ∧ (m = -2000000 ∨ m = 2000000)) ∨ ∃ e, e ∈ (L.take j).drop i ∧ e.2 = m) → -2000 ≤ (m + d).toInt ∧ (m + d).toInt ≤ 2000 := by
    intro m hm
    rcases hm with ⟨e, _⟩ | ⟨e, h1, h2⟩
    · exact absurd e nn
    · have h3 := hb e h1
      rw [h2] at h3
      have := sm m h3.1 h3.2
      omega
  have G1 := G _ (gh.2.elim (fun t => Or.inl ⟨t.1, Or.inl t.2⟩) Or.inr)
  have G2 := G _ (gl.2.elim (fun t => Or.inl ⟨t.1, Or.inr t.2⟩) Or.inr)
  have hfin : wX_raise_69 post (nI i) (nI j) d 1 (sp_row u1) (sp_clp u1) (sp_bef u1) (sp_mid u1) (sp_beh u1) (sp_L u1) (sp_R u1) (sp_U u1) (sp_V u1) (sp_S u1) (sp_T u1) (sp_H u1) (sp_M u1) (sp_W u1) (sp_tn u1) (sp_mi u1) (sp_ad u1) (sp_us u1) (sp_st u1) (sp_cp u1) := by
    unfold wX_raise_69
    refine br_f (by decide) ?_
    refine sp_addI (u := u1) O1 bd (fun u2 O2 => ?_)
    refine sp_closeI (u := u2) O2 (fun u3 I3 _ => ?_)
    refine br_f (by decide) ?_
    show post (nI j - nI i) u3
    rw [pk_sub (by omega)]
    exact K u3 I3
  refine br_c (fun _ => hfin) (fun _ => And.intro gi (br_f (fun e => ?_) (And.intro gi (br_f (fun e => ?_) hfin))))
  · have e2 := Int32.lt_iff_toInt_lt.mp e
    have e3 : (1000000 : Int32).toInt < (sp_M u1 (sp_mid u1).toNatClampNeg + d).toInt := e2
    omega
  · have e2 := Int32.lt_iff_toInt_lt.mp e
    have e3 : (sp_W u1 (sp_mid u1).toNatClampNeg + d).toInt < (-1000000 : Int32).toInt := e2
    omega
end
section
def sp_new (u : St2) (x : Nat) (v : Int32) : St2 := (sp_row u, sp_clp u, sp_bef u, sp_mid u, sp_beh u, upd (sp_L u) x 0, upd (sp_R u) x 0, upd (sp_U u) x 0, upd (sp_V u) x v, sp_S u, sp_T u, sp_H u, sp_M u, sp_W u, upd (sp_tn u) x 0, upd (sp_mi u) x 0, upd (sp_ad u) x 0, upd (sp_us u) x 1, sp_st u, sp_cp u)
/-- the nodes 1 .. n are used -/
def sp_ux (u : St2) (n : Nat) : Prop := ∀ k, 0 < k → k ≤ 48 → sp_us u k = if k ≤ n then 1 else 0
theorem sp_mkl {post : Int32 → St2 → Prop} {u : St2} {v : Int32} {n : Nat} (hn : n < 48) (hus : sp_ux u n) (K : ∀ h7, post (nI (n + 1)) (sp_pl (sp_new u (n + 1) v) (n + 1) 0 0 h7)) : ∀ c x, c ≤ 48 → (c = 48 ∧ x = 1 ∨ c < 48 ∧ x = max c n + 1) → wX_make_5 post v (sp_row u) (sp_clp u) (sp_bef u) (sp_mid u) (sp_beh u) (sp_L u) (sp_R u) (sp_U u) (sp_V u) (sp_S u) (sp_T u) (sp_H u) (sp_M u) (sp_W u) (sp_tn u) (sp_mi u) (sp_ad u) (sp_us u) (sp_st u) (sp_cp u) (c + 1) (nI x) (nI c) := by
  intro c
  induction c with
  | zero =>
    intro x _ hx
    have e : x = n + 1 := by omega
    subst e
    have cx : (nI (n + 1)).toNatClampNeg = n + 1 := nI_clamp (by omega)
    have ix : vp_in (nI (n + 1)) 49 := vp_in_nI (by omega) (by decide)
    unfold wX_make_5
    rw [cx]
    refine br_t (by decide) (And.intro ix (nm_e (And.intro ix (nm_e (And.intro ix (nm_e (And.intro ix (nm_e (And.intro ix (nm_e (And.intro ix (nm_e (And.intro ix (nm_e (And.intro ix (nm_e ?_))))))))))))))))
    exact sp_wpull (u := sp_new u (n + 1) v) (x := n + 1) (l := 0) (r := 0) (by omega) (by omega) (by omega) pk_us pk_us (fun h7 => K h7)
  | succ c ih =>
    intro x hc hx
    have cc : (nI (c + 1)).toNatClampNeg = c + 1 := nI_clamp (by omega)
    have ic : vp_in (nI (c + 1)) 49 := vp_in_nI (by omega) (by decide)
    have hu := hus (c + 1) (by omega) hc
    unfold wX_make_5
    rw [cc]
    refine br_f (nI_nle (by omega) (by omega)) (And.intro ic (br_c (fun e => nm_r (pk_m1 c) ?_) (fun e => nm_r (pk_m1 c) ?_)))
    · have e2 : sp_us u (c + 1) = 0 := e
      rw [hu] at e2
      have : ¬ c + 1 ≤ n := by
        intro h
        rw [if_pos h] at e2
        exact absurd e2 (by decide)
      exact ih (c + 1) (by omega) (Or.inr ⟨by omega, by omega⟩)
    · have e2 : ¬ sp_us u (c + 1) = 0 := e
      rw [hu] at e2
      have : c + 1 ≤ n := by
        rcases Nat.lt_or_ge n (c + 1) with h | h
        · rw [if_neg (by omega)] at e2
          exact absurd rfl e2
        · exact h
      exact ih x (by omega) (Or.inr ⟨by omega, by omega⟩)
theorem sp_make_ok {post : Int32 → St2 → Prop} {u : St2} {v : Int32} {n : Nat} (hn : n < 48) (hus : sp_ux u n) (z : sp_Z u) (bv : sp_bv v) (K : ∀ u', sp_t u' 0 (n + 1) [(n + 1, v)] → sp_Z u' → sp_fr u u' [(n + 1, v)] → sp_bef u' = sp_bef u → sp_beh u' = sp_beh u → sp_clp u' = sp_clp u → sp_ux u' (n + 1) → post (nI (n + 1)) u') : wpX_make post u v := by
  refine ⟨49, sp_mkl hn hus (fun h7 => ?_) 48 1 (by omega) (Or.inl ⟨rfl, rfl⟩)⟩
  have z1 : sp_Z (sp_new u (n + 1) v) := z
  have ev : sp_V (sp_new u (n + 1) v) (n + 1) = v := pk_us
  have bv1 : sp_bv (sp_V (sp_new u (n + 1) v) (n + 1)) := by rw [ev]; exact bv
  obtain ⟨N, s1, s2⟩ := sp_pl_ok (u := sp_new u (n + 1) v) (p := 0) (x := n + 1) (l := 0) (r := 0) (A := []) (B := []) h7 z1 ⟨by omega, by omega⟩ pk_us pk_us pk_us pk_us pk_us pk_us bv1 (sp_t_nil _ _) (sp_t_nil _ _) List.not_mem_nil List.not_mem_nil
  have t := sp_t_node N s1 s2
  rw [ev] at t
  refine K _ t (sp_Z_nd z1 (sp_pl_nd _ _ _ _ _ (by omega))) (fun y y0 hy => ?_) rfl rfl rfl (fun k k0 k1 => ?_)
  · have ne : y ≠ n + 1 := fun e => hy (by rw [e]; exact List.mem_cons_self)
    exact ⟨(sp_pl_nd _ _ _ _ _ ne).trans (sp_nd_i.mpr ⟨pk_un ne, pk_un ne, pk_un ne, rfl, rfl, rfl, rfl, pk_un ne, pk_un ne, pk_un ne⟩), pk_un ne⟩
  · show upd (sp_us u) (n + 1) 1 k = _
    by_cases e : k = n + 1
    · rw [e, pk_us, if_pos (Nat.le_refl _)]
    · rw [pk_un e, hus k k0 k1]
      by_cases h : k ≤ n
      · rw [if_pos h, if_pos (by omega)]
      · rw [if_neg h, if_neg (by omega)]
theorem sp_put_ok {post : St2 → Prop} {u : St2} {v : Int32} {n : Nat} {L : sp_Ls} (h : sp_I u L []) (hn : n < 48) (hL : L.length = n) (hus : sp_ux u n) (hid : ∀ y, y ∈ sp_ids L → y ≤ n) (bv : sp_bv v) (K : ∀ u', sp_I u' (L ++ [(n + 1, v)]) [] → sp_ux u' (n + 1) → post u') : wpX_put post u (nI n) v := by
  unfold wpX_put
  refine sp_openI (u := u) h (Nat.le_refl n) (by omega) (fun u1 O1 us1 => ?_)
  have e1 : L.take n = L := List.take_of_length_le (by omega)
  have e2 : L.drop n = [] := List.drop_eq_nil_of_le (by omega)
  rw [e1, e2] at O1
  obtain ⟨z, ⟨b, eb, tb⟩, _, ⟨d, ed, td⟩, ⟨c, ec, tc⟩, hu, hl⟩ := O1
  have hus1 : sp_ux u1 n := by unfold sp_ux; rw [us1]; exact hus
  have fresh : ∀ y, y ∈ sp_ids L → y ∉ sp_ids [(n + 1, v)] := by
    intro y hy h2
    have h3 := hid y hy
    have h4 : y = n + 1 := by
      rcases List.mem_cons.mp h2 with g | g
      · exact g
      · exact absurd g List.not_mem_nil
    omega
  refine sp_make_ok (u := u1) hn hus1 z bv (fun u2 t2 z2 fr2 s1 s2 s3 ux2 => ?_)
  have fr : ∀ (x : Nat) (X : sp_Ls), sp_t u2 0 x X → sp_t (sp_om u2 (nI (n + 1)) (sp_beh u2)) 0 x X := fun x X t => sp_t_fr0 t (fun y _ => ⟨rfl, rfl⟩)
  have O2 : sp_O (sp_om u2 (nI (n + 1)) (sp_beh u2)) L [(n + 1, v)] [] [] := by
    refine ⟨z2, ⟨b, s1.trans eb, fr _ _ (sp_t_fr tb fr2 fresh)⟩, ⟨n + 1, rfl, fr _ _ t2⟩, ⟨d, s2.trans ed, ?_⟩, ⟨c, s3.trans ec, ?_⟩, ?_, ?_⟩
    · have : d = 0 := sp_t_e td
      rw [this]
      exact sp_t_nil _ _
    · have : c = 0 := sp_t_e tc
      rw [this]
      exact sp_t_nil _ _
    · rw [List.append_nil, List.append_nil, sp_un_app]
      refine ⟨(sp_un_app.mp h.2.2.2.1).1, ?_, fresh⟩
      rw [sp_un_cons]
      exact ⟨List.not_mem_nil, List.nodup_nil⟩
    · simp only [List.length_cons, List.length_nil]
      omega
  refine sp_closeI (u := sp_om u2 (nI (n + 1)) (sp_beh u2)) O2 (fun u3 I3 us3 => ?_)
  rw [List.append_nil] at I3
  exact K u3 I3 (by unfold sp_ux; rw [us3]; exact ux2)
theorem sp_run {post : Int32 → St2 → Prop} (K : ∀ u' L, sp_I u' L [] → L.map Prod.snd = (List.range 8).map nI → post (nI 8) u') : ∀ (f n : Nat) (u : St2) (L : sp_Ls), 8 - n < f → n ≤ 8 → sp_I u L [] → L.length = n → L.map Prod.snd = (List.range n).map nI → sp_ux u n → (∀ y, y ∈ sp_ids L → y ≤ n) → wX_insertRun_99 post 0 8 0 1 f (nI n) (sp_row u) (sp_clp u) (sp_bef u) (sp_mid u) (sp_beh u) (sp_L u) (sp_R u) (sp_U u) (sp_V u) (sp_S u) (sp_T u) (sp_H u) (sp_M u) (sp_W u) (sp_tn u) (sp_mi u) (sp_ad u) (sp_us u) (sp_st u) (sp_cp u) := by
  intro f
  induction f with
  | zero => intro n u L hf; omega
  | succ f ih =>
    intro n u L hf hn hI hL hm hus hid
    unfold wX_insertRun_99
    refine pk_le 8 n (fun h => ?_) (fun h => ?_)
    · have e : n = 8 := by omega
      subst e
      have hr := sp_I_row hI
      refine And.intro hr.1 ?_
      show post (sp_S u (sp_row u).toNatClampNeg) u
      rw [hr.2, hL]
      exact K u L hI hm
    · have e1 : (0 : Int32) + nI n = nI n := by rw [Int32.zero_add]
      have e2 : (0 : Int32) + nI n * 1 = nI n := by rw [Int32.zero_add, Int32.mul_one]
      rw [e1, e2]
      have bv : sp_bv (nI n) := by
        unfold sp_bv
        rw [nI_toInt (by omega)]
        omega
      refine sp_put_ok (u := u) hI (by omega) hL hus hid bv (fun u2 I2 ux2 => ?_)
      refine nm_r (nI_1 n) (ih (n + 1) u2 (L ++ [(n + 1, nI n)]) (by omega) (by omega) I2 ?_ ?_ ux2 ?_)
      · rw [List.length_append, hL]
        rfl
      · rw [List.map_append, hm, List.range_succ, List.map_append]
        rfl
      · intro y hy
        rw [sp_ids_app, List.mem_append] at hy
        rcases hy with g | g
        · have := hid y g
          omega
        · rcases List.mem_cons.mp g with g | g
          · omega
          · exact absurd g List.not_mem_nil
theorem sp_bn_ok {post : Int32 → Prop} {u : St2} {v : Int32} (h1 : ¬ v < -1000000) (h2 : v ≤ 1000000) (K : post 0) : wpX_badNumber post u v := by
  unfold wpX_badNumber
  exact br_f h1 (br_t h2 K)
theorem sp_ir_ok {post : Int32 → St2 → Prop} {u : St2} (h : sp_I u [] []) (hus : sp_ux u 0) (K : ∀ u' L, sp_I u' L [] → L.map Prod.snd = (List.range 8).map nI → post (nI 8) u') : wpX_insertRun post u 0 8 0 1 := by
  have hr := sp_I_row h
  have hc := sp_I_clp h
  have r0 : sp_S u (sp_row u).toNatClampNeg = 0 := hr.2
  have c0 : sp_S u (sp_clp u).toNatClampNeg = 0 := hc.2
  have e67 : wX_insertRun_67 post 0 8 0 1 (sp_row u) (sp_clp u) (sp_bef u) (sp_mid u) (sp_beh u) (sp_L u) (sp_R u) (sp_U u) (sp_V u) (sp_S u) (sp_T u) (sp_H u) (sp_M u) (sp_W u) (sp_tn u) (sp_mi u) (sp_ad u) (sp_us u) (sp_st u) (sp_cp u) := by
    unfold wX_insertRun_67
    refine And.intro hr.1 (And.intro hc.1 (br_t ?_ ⟨9, sp_run K 9 0 u [] (by omega) (by omega) h rfl rfl hus (fun y hy => absurd hy List.not_mem_nil)⟩))
    rw [r0, c0]
    decide
  unfold wpX_insertRun
  refine br_f (by decide) (And.intro hr.1 (br_f ?_ (br_f (by decide) (br_f (by decide) (sp_bn_ok (by decide) (by decide) (br_t rfl (sp_bn_ok (by decide) (by decide) (br_t rfl (br_f (by decide) (sp_bn_ok (by decide) (by decide) (br_t rfl e67)))))))))))
  show ¬ sp_S u (sp_row u).toNatClampNeg < 0
  rw [r0]
  decide
theorem sp_nar1 : narrow .boolean (.int (1 : Int32)) = .int 1 := by decide
theorem sp_nar0 : narrow .boolean (.int (0 : Int32)) = .int 0 := by decide
theorem sp_alk {post : Int32 → St2 → Prop} {L C : sp_Ls} {i k : Nat} (hk : i + k ≤ L.length) (K : ∀ u', sp_I u' L C → post 1 u') : ∀ (f p : Nat) (u : St2), k - p < f → p ≤ k → sp_I u L C → wX_alike_84 post (nI i) (nI i) (nI k) f 1 (nI p) (sp_row u) (sp_clp u) (sp_bef u) (sp_mid u) (sp_beh u) (sp_L u) (sp_R u) (sp_U u) (sp_V u) (sp_S u) (sp_T u) (sp_H u) (sp_M u) (sp_W u) (sp_tn u) (sp_mi u) (sp_ad u) (sp_us u) (sp_st u) (sp_cp u) := by
  intro f
  induction f with
  | zero => intro p u hf; omega
  | succ f ih =>
    intro p u hf hp hI
    have hl := sp_I_len hI
    unfold wX_alike_84
    refine pk_le k p (fun h => And.intro sp_nar1 (K u hI)) (fun h => br_f (by decide) ?_)
    rw [nI_add]
    refine sp_get_ok (u := u) hI (by omega) (fun u1 v1 e1 I1 => ?_)
    refine sp_get_ok (u := u1) I1 (by omega) (fun u2 v2 e2 I2 => ?_)
    have e : v1 = v2 := Option.some.inj (e1.symm.trans e2)
    refine br_t e (nm_r (nI_1 p) (ih (p + 1) u2 (by omega) (by omega) I2))
theorem sp_alike1 {post : Int32 → St2 → Prop} {u : St2} {L C : sp_Ls} {i k : Nat} (h : sp_I u L C) (hk : i + k ≤ L.length) (K : ∀ u', sp_I u' L C → post 1 u') : wpX_alike post u (nI i) (nI i) (nI k) := by
  have hl := sp_I_len h
  have hr := sp_I_row h
  have e1 : nI L.length - nI k = nI (L.length - k) := pk_sub (by omega)
  unfold wpX_alike
  refine And.intro hr.1 (nm_r (e' := nI L.length) hr.2 ?_)
  rw [e1, nI_add]
  refine br_f (nI_pos (by omega)) (br_f (nI_pos (by omega)) (br_f (nI_pos (by omega)) (br_f (nI_nlt (by omega) (by omega)) (br_f (nI_nlt (by omega) (by omega)) (br_t (nI_le (by omega) (by omega)) ?_)))))
  refine sp_sum_ok (u := u) h (by omega) hk (fun u1 I1 => ?_)
  refine sp_sum_ok (u := u1) I1 (by omega) hk (fun u2 I2 => ?_)
  exact br_t rfl ⟨k + 1, sp_alk hk K (k + 1) 0 u2 (by omega) (by omega) I2⟩
theorem sp_alike0 {post : Int32 → St2 → Prop} {u : St2} {L C : sp_Ls} {i j k : Nat} (h : sp_I u L C) (hk : i + k ≤ L.length) (hk2 : j + k ≤ L.length) (k0 : 0 < k) (hs : ¬ sp_sum ((L.take (i + k)).drop i) = sp_sum ((L.take (j + k)).drop j)) (K : ∀ u', sp_I u' L C → post 0 u') : wpX_alike post u (nI i) (nI j) (nI k) := by
  have hl := sp_I_len h
  have hr := sp_I_row h
  have e1 : nI L.length - nI k = nI (L.length - k) := pk_sub (by omega)
  unfold wpX_alike
  refine And.intro hr.1 (nm_r (e' := nI L.length) hr.2 ?_)
  rw [e1, nI_add, nI_add]
  refine br_f (nI_pos (by omega)) (br_f (nI_pos (by omega)) (br_f (nI_pos (by omega)) (br_f (nI_nlt (by omega) (by omega)) (br_f (nI_nlt (by omega) (by omega)) (br_t (nI_le (by omega) (by omega)) ?_)))))
  refine sp_sum_ok (u := u) h (by omega) hk (fun u1 I1 => ?_)
  refine sp_sum_ok (u := u1) I1 (by omega) hk2 (fun u2 I2 => ?_)
  refine br_f hs ⟨1, ?_⟩
  unfold wX_alike_84
  exact br_f (nI_ge k0 (by omega)) (br_t rfl (And.intro sp_nar0 (K u2 I2)))
end
section
/-- what the law's calls make of a row -/
def sp_l1 {α : Type} (i s p : Nat) (l : List α) : List α :=
  ((l.take i ++ l.drop (i + s)).take p) ++ ((l.take (i + s)).drop i) ++ ((l.take i ++ l.drop (i + s)).drop p)
def sp_l2 {α : Type} (s p : Nat) (l : List α) : List α := l.take p ++ ((l.take (p + s)).drop p).reverse ++ l.drop (p + s)
def sp_l3 {α : Type} (s p k : Nat) (l : List α) : List α := l.take p ++ (((l.take (p + s)).drop p).drop k ++ ((l.take (p + s)).drop p).take k) ++ l.drop (p + s)
theorem sp_l1_map {α β : Type} (f : α → β) (i s p : Nat) (l : List α) : (sp_l1 i s p l).map f = sp_l1 i s p (l.map f) := by
  unfold sp_l1
  simp only [List.map_append, List.map_take, List.map_drop]
theorem sp_l2_map {α β : Type} (f : α → β) (s p : Nat) (l : List α) : (sp_l2 s p l).map f = sp_l2 s p (l.map f) := by
  unfold sp_l2
  simp only [List.map_append, List.map_take, List.map_drop, List.map_reverse]
theorem sp_l3_map {α β : Type} (f : α → β) (s p k : Nat) (l : List α) : (sp_l3 s p k l).map f = sp_l3 s p k (l.map f) := by
  unfold sp_l3
  simp only [List.map_append, List.map_take, List.map_drop]
/-- the number that the law awaits at t -/
def sp_due (x5 x6 x7 x8 x9 x19 : Int32) : Int32 :=
  let z := if x8 ≤ x19 then x19 - x6 else x19
  let o := if x5 ≤ z then z + x6 else z
  let b := if (x19 - x8) + x9 < x6 then (x19 - x8) + x9 else ((x19 - x8) + x9) - x6
  if x19 - x8 < 0 then o else if x6 ≤ x19 - x8 then o else (x7 - 1) - b
def sp_sv : List Int32 → Int32
  | [] => 0
  | v :: l => v + sp_sv l
theorem sp_sum_sv (A : sp_Ls) : sp_sum A = sp_sv (A.map Prod.snd) := by
  induction A with
  | nil => rfl
  | cons e l ih =>
    show e.2 + sp_sum l = e.2 + sp_sv (l.map Prod.snd)
    rw [ih]
def sp_row2 (i s p : Nat) : List Nat := sp_l1 i s p (List.range 8)
def sp_row4 (i s p k : Nat) : List Nat := sp_l3 s p k (sp_l2 s p (sp_row2 i s p))
/-- all that is asked of the numbers, row by row -/
def sp_v6 (i s p k : Nat) : List Int32 := (sp_row4 i s p k).map (fun v => -(nI v) + 7)
def sp_chk (i s p k : Nat) : Bool :=
  let v4 := (sp_row4 i s p k).map nI
  let v6 := sp_v6 i s p k
  (decide (v4.length = 8) && v4.all (fun v => decide (0 ≤ v.toInt ∧ v.toInt ≤ 7)) && decide ((7 : Int32) ∈ v4))
  && (v6.all (fun v => decide (v.toInt ≤ 7)) && decide ((7 : Int32) ∈ v6) && decide (sp_sv v6 = 28) && decide (¬ sp_sv ((v6.take 7).drop 0) = sp_sv ((v6.take 8).drop 1)))
  && (List.range 8).all (fun t => decide (v4[t]? = some (sp_due (nI i) (nI s) (nI (i + s)) (nI p) (nI k) (nI t))))
def sp_chs (i s p : Nat) : Bool :=
  decide ((sp_row2 i s p).length = 8) && decide (sp_sv ((((sp_row2 i s p).take (p + s)).drop p).map nI) = (nI s * (((2 * nI i) + nI s) - 1)) / 2)
theorem sp_chk_ok : ∀ i, i < 8 → ∀ s, s < 9 - i → ∀ p, p < 9 - s → ∀ k, k < s + 1 → sp_chk i s p k = true := by decide +kernel
theorem sp_chs_ok : ∀ i, i < 8 → ∀ s, s < 9 - i → ∀ p, p < 9 - s → sp_chs i s p = true := by decide +kernel
end
section
theorem sp_w269 {post : Int32 → St0 → Prop} {mc ms kc ks : Nat} {J : Int32 → Int32 → Int32 → Int32 → Int32 → Int32 → Int32 → (Nat → Int32) → (Nat → Int32) → (Nat → Int32) → (Nat → Int32) → (Nat → Int32) → (Nat → Int32) → (Nat → Int32) → (Nat → Int32) → (Nat → Int32) → (Nat → Int32) → (Nat → Int32) → (Nat → Int32) → (Nat → Int32) → (Nat → Int32) → (Nat → Int32) → Prop} {x5 x6 x7 x8 x9 x18 x19 x20 : Int32} {u : St2} (e20 : x20 = x19 - x8) (H : wL_lawOf_342 post mc ms J x5 x6 x7 x8 x9 x18 x19 (sp_due x5 x6 x7 x8 x9 x19) kc ks (sp_row u) (sp_clp u) (sp_bef u) (sp_mid u) (sp_beh u) (sp_L u) (sp_R u) (sp_U u) (sp_V u) (sp_S u) (sp_T u) (sp_H u) (sp_M u) (sp_W u) (sp_tn u) (sp_mi u) (sp_ad u) (sp_us u) (sp_st u) (sp_cp u)) : (x8 ≤ x19 → wL_lawOf_269 post mc ms J x5 x6 x7 x8 x9 x18 x19 x20 (x19 - x6) kc ks (sp_row u) (sp_clp u) (sp_bef u) (sp_mid u) (sp_beh u) (sp_L u) (sp_R u) (sp_U u) (sp_V u) (sp_S u) (sp_T u) (sp_H u) (sp_M u) (sp_W u) (sp_tn u) (sp_mi u) (sp_ad u) (sp_us u) (sp_st u) (sp_cp u)) ∧ (¬ x8 ≤ x19 → wL_lawOf_269 post mc ms J x5 x6 x7 x8 x9 x18 x19 x20 x19 kc ks (sp_row u) (sp_clp u) (sp_bef u) (sp_mid u) (sp_beh u) (sp_L u) (sp_R u) (sp_U u) (sp_V u) (sp_S u) (sp_T u) (sp_H u) (sp_M u) (sp_W u) (sp_tn u) (sp_mi u) (sp_ad u) (sp_us u) (sp_st u) (sp_cp u)) := by
  subst e20
  refine br_c (fun h1 => ?_) (fun h1 => ?_) <;> unfold wL_lawOf_269 <;> refine br_c (fun h2 => ?_) (fun h2 => ?_) <;> unfold wL_lawOf_288 <;> refine br_c (fun h3 => ?_) (fun h3 => ?_) <;> unfold wL_lawOf_316 wL_lawOf_340 <;> refine br_c (fun h4 => ?_) (fun h4 => br_c (fun h5 => ?_) (fun h5 => ?_)) <;> (first | simpa only [sp_due, h1, h2, h3, h4, h5, if_true, if_false] using H | simpa only [sp_due, h1, h2, h3, h4, if_true, if_false] using H)
theorem sp_hi_7 {m : Int32} {A : sp_Ls} (h : sp_hi m A) (h1 : ∀ v, v ∈ A.map Prod.snd → v.toInt ≤ 7) (h2 : (7 : Int32) ∈ A.map Prod.snd) : m = 7 := by
  obtain ⟨e, he, e7⟩ := List.mem_map.mp h2
  have c7 : (7 : Int32).toInt = 7 := by decide
  have k1 := h.1 e he
  rw [e7, c7] at k1
  rcases h.2 with ⟨g, _⟩ | ⟨e', he', em⟩
  · rw [g] at he
    exact absurd he List.not_mem_nil
  · have k2 := h1 e'.2 (List.mem_map.mpr ⟨e', he', rfl⟩)
    rw [em] at k2
    apply Int32.toInt_inj.mp
    rw [c7]
    omega
theorem sp_t8 {A : sp_Ls} (h : A.length = 8) : (A.take 8).drop 0 = A ∧ A.take 0 = [] ∧ A.drop 8 = [] := by
  refine ⟨?_, rfl, List.drop_eq_nil_of_le (by omega)⟩
  rw [List.drop_zero]
  exact List.take_of_length_le (by omega)
/-- behind the law's loop -/
theorem sp_chk_u {i s p k : Nat} (h : sp_chk i s p k = true) : (((sp_row4 i s p k).map nI).length = 8 ∧ (∀ v, v ∈ (sp_row4 i s p k).map nI → 0 ≤ v.toInt ∧ v.toInt ≤ 7) ∧ (7 : Int32) ∈ (sp_row4 i s p k).map nI) ∧ ((∀ v, v ∈ sp_v6 i s p k → v.toInt ≤ 7) ∧ (7 : Int32) ∈ sp_v6 i s p k ∧ sp_sv (sp_v6 i s p k) = 28 ∧ ¬ sp_sv (((sp_v6 i s p k).take 7).drop 0) = sp_sv (((sp_v6 i s p k).take 8).drop 1)) ∧ (∀ t, t < 8 → ((sp_row4 i s p k).map nI)[t]? = some (sp_due (nI i) (nI s) (nI (i + s)) (nI p) (nI k) (nI t))) := by
  unfold sp_chk at h
  simp only [Bool.and_eq_true, decide_eq_true_eq, List.all_eq_true, List.mem_range] at h
  obtain ⟨⟨⟨⟨h1, h2⟩, h3⟩, ⟨⟨⟨h4, h5⟩, h6⟩, h7⟩⟩, h8⟩ := h
  exact ⟨⟨h1, h2, h3⟩, ⟨h4, h5, h6, h7⟩, h8⟩
theorem sp_loop {post : Int32 → St0 → Prop} {mc ms kc ks i s p k : Nat} {L : sp_Ls} (hp : post 1 ()) (ck : sp_chk i s p k = true) (hm : L.map Prod.snd = (sp_row4 i s p k).map nI) : ∀ (f t : Nat) (u : St2), 8 - t < f → t ≤ 8 → sp_I u L [] → wL_lawOf_238 post mc ms (nI i) (nI s) (nI (i + s)) (nI p) (nI k) kc ks f 1 (nI t) (sp_row u) (sp_clp u) (sp_bef u) (sp_mid u) (sp_beh u) (sp_L u) (sp_R u) (sp_U u) (sp_V u) (sp_S u) (sp_T u) (sp_H u) (sp_M u) (sp_W u) (sp_tn u) (sp_mi u) (sp_ad u) (sp_us u) (sp_st u) (sp_cp u) := by
  obtain ⟨⟨c1, c2, c3⟩, ⟨c4, c5, c6, c7⟩, c8⟩ := sp_chk_u ck
  have hL : L.length = 8 := by
    rw [← c1, ← hm, List.length_map]
  intro f
  induction f with
  | zero => intro t u hf; omega
  | succ f ih =>
    intro t u hf ht hI
    unfold wL_lawOf_238
    refine pk_le 8 t (fun h => ?_) (fun h => nm_e ?_)
    · have t8 := sp_t8 hL
      have n8 : (L.map sp_ng).length = 8 := by rw [List.length_map]; exact hL
      have s8 := sp_t8 n8
      have u8 : ((L.map sp_ng).map (sp_up 7)).length = 8 := by rw [List.length_map]; exact n8
      have w8 := sp_t8 u8
      have e6 : ((L.map sp_ng).map (sp_up 7)).map Prod.snd = sp_v6 i s p k := by
        have e5 : ((L.map sp_ng).map (sp_up 7)).map Prod.snd = (L.map Prod.snd).map (fun v => -v + 7) := by
          rw [List.map_map, List.map_map, List.map_map]
          rfl
        rw [e5, hm, List.map_map]
        rfl
      refine sp_ngt_ok (u := u) (i := 0) (j := 8) hI (by omega) (by omega) (fun u1 I1 => ?_)
      rw [t8.1, t8.2.1, t8.2.2, List.nil_append, List.append_nil] at I1
      refine sp_rse_ok (u := u1) (i := 0) (j := 8) (d := 7) I1 (by omega) (by omega) (by unfold sp_bv; decide) ?_ (by decide) (fun u2 I2 => ?_)
      · rw [s8.1]
        intro e he
        obtain ⟨a, ha, rfl⟩ := List.mem_map.mp he
        have k1 := c2 a.2 (by rw [← hm]; exact List.mem_map.mpr ⟨a, ha, rfl⟩)
        have k2 : sp_bv a.2 := by unfold sp_bv; omega
        have k3 := sp_neg_T k2
        show -1000 ≤ (-a.2).toInt ∧ (-a.2).toInt ≤ 1000
        omega
      rw [s8.1, s8.2.1, s8.2.2, List.nil_append, List.append_nil] at I2
      refine br_f (by decide) (br_t rfl (br_t rfl ?_))
      refine sp_sum_ok (u := u2) (i := 0) (j := 8) I2 (by omega) (by omega) (fun u3 I3 => ?_)
      refine br_t (by rw [w8.1, sp_sum_sv, e6]; exact c6) ?_
      refine sp_grt_ok (u := u3) (i := 0) (j := 8) I3 (by omega) (by omega) (fun u4 m I4 hi4 => ?_)
      rw [w8.1] at hi4
      refine br_t (sp_hi_7 hi4 (by rw [e6]; exact c4) (by rw [e6]; exact c5)) ?_
      refine sp_clip_ok (u := u4) I4 (br_t rfl ?_)
      refine sp_alike1 (u := u4) (i := 0) (k := 8) I4 (by omega) (fun u5 I5 => br_f (by decide) ?_)
      refine sp_alike0 (u := u5) (i := 0) (j := 1) (k := 7) I5 (by omega) (by omega) (by omega) ?_ (fun u6 I6 => br_t rfl hp)
      rw [sp_sum_sv, sp_sum_sv, List.map_drop, List.map_take, List.map_drop, List.map_take, e6]
      exact c7
    · refine sp_w269 (u := u) rfl ?_
      unfold wL_lawOf_342
      refine br_f (by decide) ?_
      refine sp_get_ok (u := u) hI (by omega) (fun u1 v e1 I1 => ?_)
      rw [hm, c8 t h] at e1
      exact br_t (Option.some.inj e1).symm (nm_r (nI_1 t) (ih (t + 1) u1 (by omega) (by omega) I1))
theorem sp_w64 {post : Int32 → St0 → Prop} {mc ms kc ks i s p k : Nat} {u : St2} (hp : post 1 ()) (hi : i < 8) (hs : s < 9 - i) (hpp : p < 9 - s) (hk : k < s + 1) (hI : sp_I u [] []) (hux : sp_ux u 0) : wL_lawOf_64 post mc ms (nI i) (nI s) (nI (i + s)) (nI p) (nI k) kc ks (sp_row u) (sp_clp u) (sp_bef u) (sp_mid u) (sp_beh u) (sp_L u) (sp_R u) (sp_U u) (sp_V u) (sp_S u) (sp_T u) (sp_H u) (sp_M u) (sp_W u) (sp_tn u) (sp_mi u) (sp_ad u) (sp_us u) (sp_st u) (sp_cp u) := by
  have ck := sp_chk_ok i hi s hs p hpp k hk
  have cs := sp_chs_ok i hi s hs p hpp
  unfold sp_chs at cs
  simp only [Bool.and_eq_true, decide_eq_true_eq] at cs
  obtain ⟨⟨c1, c2, c3⟩, _, _⟩ := sp_chk_u ck
  unfold wL_lawOf_64
  rw [nI_add p s]
  refine sp_ir_ok (u := u) hI hux (fun u0 L I0 m0 => ?_)
  have l0 : L.length = 8 := by
    have := congrArg List.length m0
    rw [List.length_map, List.length_map, List.length_range] at this
    exact this
  refine sp_cut_ok (u := u0) (i := i) (j := i + s) I0 (by omega) (by omega) (fun u1 I1 => ?_)
  have lC : ((L.take (i + s)).drop i).length = s := by
    rw [List.length_drop, List.length_take]
    omega
  have l1 : (L.take i ++ L.drop (i + s)).length = 8 - s := by
    rw [List.length_append, List.length_take, List.length_drop]
    omega
  refine sp_size_ok (u := u1) I1 ?_
  refine sp_pst_ok (u := u1) (i := p) I1 (by omega) (fun u2 I2 => ?_)
  replace I2 : sp_I u2 (sp_l1 i s p L) [] := I2
  have m2 : (sp_l1 i s p L).map Prod.snd = (sp_row2 i s p).map nI := by
    rw [sp_l1_map, m0, ← sp_l1_map]
    rfl
  have l2 : (sp_l1 i s p L).length = 8 := by
    have := congrArg List.length m2
    rw [List.length_map, List.length_map, cs.1] at this
    exact this
  revert I2 m2 l2
  generalize sp_l1 i s p L = L2
  intro I2 m2 l2
  refine sp_sum_ok (u := u2) (i := p) (j := p + s) I2 (by omega) (by omega) (fun u3 I3 => ?_)
  refine sp_rev_ok (u := u3) (i := p) (j := p + s) I3 (by omega) (by omega) (fun u4 I4 => ?_)
  replace I4 : sp_I u4 (sp_l2 s p L2) [] := I4
  have m4 : (sp_l2 s p L2).map Prod.snd = (sp_l2 s p (sp_row2 i s p)).map nI := by
    rw [sp_l2_map, m2, ← sp_l2_map]
  have l4 : (sp_l2 s p L2).length = 8 := by
    unfold sp_l2
    simp only [List.length_append, List.length_reverse, List.length_take, List.length_drop, l2]
    omega
  revert I4 m4 l4
  generalize sp_l2 s p L2 = L4
  intro I4 m4 l4
  refine sp_rot_ok (u := u4) (i := p) (j := p + s) (k := k) I4 (by omega) (by omega) (by omega) (fun u5 I5 => ?_)
  replace I5 : sp_I u5 (sp_l3 s p k L4) [] := I5
  have m5 : (sp_l3 s p k L4).map Prod.snd = (sp_row4 i s p k).map nI := by
    rw [sp_l3_map, m4, ← sp_l3_map]
    rfl
  have l5 : (sp_l3 s p k L4).length = 8 := by
    have := congrArg List.length m5
    rw [List.length_map, c1] at this
    exact this
  have t8 := sp_t8 l5
  refine sp_grt_ok (u := u5) (i := 0) (j := 8) I5 (by omega) (by omega) (fun u6 m I6 hi6 => ?_)
  rw [t8.1] at hi6
  have e7 : m = 7 := sp_hi_7 hi6 (by rw [m5]; exact fun v hv => (c2 v hv).2) (by rw [m5]; exact c3)
  have q1 : nI (i + s - i) = nI s := by rw [Nat.add_sub_cancel_left]
  have q2 : nI (p + s - p) = nI s := by rw [Nat.add_sub_cancel_left]
  have q3 : nI (L.take i ++ L.drop (i + s)).length = 8 - nI s := by
    rw [l1]
    exact (pk_sub (a := 8) (b := s) (by omega)).symm
  have q4 : nI ((L.take i ++ L.drop (i + s)).length + ((L.take (i + s)).drop i).length) = 8 := by
    rw [l1, lC, Nat.sub_add_cancel (by omega)]
    rfl
  have q5 : sp_sum ((L2.take (p + s)).drop p) = (nI s * (((2 * nI i) + nI s) - 1)) / 2 := by
    rw [sp_sum_sv, List.map_drop, List.map_take, m2, ← List.map_take, ← List.map_drop]
    exact cs.2
  refine br_t rfl (br_t q1 (br_t q3 (br_t q4 (br_t e7 (And.intro (by decide) (br_t q5 (br_t q2 (br_t rfl ?_))))))))
  exact ⟨9, sp_loop hp ck m5 9 0 u6 (by omega) (by omega) I6⟩
theorem sp_init0 : sp_I (0, 0, 0, 0, 0, (fun _ => 0), (fun _ => 0), (fun _ => 0), (fun _ => 0), (fun _ => 0), (fun _ => 0), (fun _ => 0), upd (fun _ => 0) 0 (-2000000), upd (fun _ => 0) 0 2000000, (fun _ => 0), (fun _ => 0), (fun _ => 0), (fun _ => 0), (fun _ => 0), (fun _ => 0)) [] [] :=
  ⟨⟨rfl, rfl, (pk_us : upd (fun _ => 0) 0 (-2000000) 0 = -2000000), (pk_us : upd (fun _ => 0) 0 2000000 0 = 2000000)⟩, ⟨0, rfl, sp_t_nil _ _⟩, ⟨0, rfl, sp_t_nil _ _⟩, List.nodup_nil, by decide⟩
theorem sp_lawOf_ok {post : Int32 → St0 → Prop} (hp : post 1 ()) (p0 p1 p2 p3 : Int32) : wpL_lawOf post 16 754 () p0 p1 p2 p3 := by
  obtain ⟨i, hi, ei⟩ := pk_andE p0 (m := 7) 3 (by decide)
  obtain ⟨a, ha, ea⟩ := pk_andE p1 (m := 15) 4 (by decide)
  obtain ⟨b, hb, eb⟩ := pk_andE p2 (m := 15) 4 (by decide)
  obtain ⟨c, hc, ec⟩ := pk_andE p3 (m := 15) 4 (by decide)
  have e9 : (9 : Int32) - nI i = nI (9 - i) := pk_sub (a := 9) (b := i) (by omega)
  have hs : a % (9 - i) < 9 - i := Nat.mod_lt _ (by omega)
  have e9s : (9 : Int32) - nI (a % (9 - i)) = nI (9 - a % (9 - i)) := pk_sub (a := 9) (b := a % (9 - i)) (by omega)
  have hux : sp_ux (0, 0, 0, 0, 0, (fun _ => 0), (fun _ => 0), (fun _ => 0), (fun _ => 0), (fun _ => 0), (fun _ => 0), (fun _ => 0), upd (fun _ => 0) 0 (-2000000), upd (fun _ => 0) 0 2000000, (fun _ => 0), (fun _ => 0), (fun _ => 0), (fun _ => 0), (fun _ => 0), (fun _ => 0)) 0 := by
    intro k k0 _
    rw [if_neg (by omega)]
    rfl
  refine ⟨by decide, by decide, 15, 734, by decide, by decide, ?_⟩
  unfold wpX_init
  refine ⟨by decide, by decide, by decide, by decide, by decide, by decide, by decide, by decide, by decide, by decide, by decide, by decide, by decide, by decide, by decide, by decide, by decide, by decide, by decide, by decide, by decide, by decide, by decide, by decide, by decide, by decide, by decide, by decide, by decide, by decide, nm_e (nm_e ?_)⟩
  refine nm_r ei ?_
  rw [e9]
  refine And.intro (nI_ne0 (by omega) (by omega)) (nm_r (e' := nI (a % (9 - i))) (by rw [ea]; exact pk_rem (by omega) (by omega) (by omega)) ?_)
  refine nm_r (nI_add i (a % (9 - i))) ?_
  rw [e9s]
  revert hs
  generalize a % (9 - i) = s
  intro hs
  have hp9 : b % (9 - s) < 9 - s := Nat.mod_lt _ (by omega)
  refine And.intro (nI_ne0 (by omega) (by omega)) (nm_r (e' := nI (b % (9 - s))) (by rw [eb]; exact pk_rem (by omega) (by omega) (by omega)) ?_)
  revert hp9
  generalize b % (9 - s) = p
  intro hp9
  refine br_c (fun h0 => ?_) (fun h0 => ?_)
  · exact sp_w64 (k := 0) hp hi hs hp9 (by omega) sp_init0 hux
  · rw [nI_1 s, ec, pk_rem (a := c) (d := s + 1) (by omega) (by omega) (by omega)]
    refine And.intro (nI_ne0 (by omega) (by omega)) ?_
    exact sp_w64 (k := c % (s + 1)) hp hi hs hp9 (Nat.mod_lt _ (by omega)) sp_init0 hux
theorem sp_cell {post : Int32 → Prop} {L : Nat} {xs : Nat → Int32} (k : Nat) (hk : k < 1000) (hL : L < 1000) (K : ∀ v, post v) : wpL_cellAt post L xs () (nI k) :=
  pk_le L k (fun _ => K _) (fun h => And.intro (vp_in_nI h (by omega)) (K _))
theorem i_vc (xs : Nat → Int32) (L : Nat) (hL : L ≤ 4) : wpL_law (fun r => r = 1) L xs := by
  refine sp_cell 0 (by omega) (by omega) (fun r1 => ?_)
  refine sp_cell 1 (by omega) (by omega) (fun r2 => ?_)
  refine sp_cell 2 (by omega) (by omega) (fun r3 => ?_)
  refine sp_cell 3 (by omega) (by omega) (fun r4 => ?_)
  exact ⟨16, 754, by decide, by decide, sp_lawOf_ok (post := fun r _ => r = 1) rfl r1 r2 r3 r4⟩
end

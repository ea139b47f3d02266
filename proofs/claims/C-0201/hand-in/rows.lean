section
/-! Items, effects, lists: nothing of the program. -/
/-- an item: node, kind, amount, void -/
abbrev ls_It : Type := Nat × Int32 × Int32 × Bool
/-- an effect: x -> clamp (x + add) low high -/
abbrev ls_Ef : Type := Int × Int × Int
def ls_own (x : ls_It) : Int := if x.2.1 = 0 then x.2.2.1.toInt else 0
def ls_ok (cap : Nat) (x : ls_It) : Prop :=
  (x.2.1 = 0 ∧ -(cap : Int) ≤ x.2.2.1.toInt ∧ x.2.2.1.toInt ≤ cap) ∨
  ((x.2.1 = 1 ∨ x.2.1 = 2 ∨ x.2.1 = 3) ∧ 0 ≤ x.2.2.1.toInt ∧ x.2.2.1.toInt ≤ cap)
def ls_oks (cap : Nat) (S : List ls_It) : Prop := ∀ x, x ∈ S → ls_ok cap x
def ls_cl (x lo hi : Int) : Int := max lo (min x hi)
def ls_th (e f : ls_Ef) : ls_Ef := (e.1 + f.1, ls_cl (e.2.1 + f.1) f.2.1 f.2.2, ls_cl (e.2.2 + f.1) f.2.1 f.2.2)
def ls_en (cap : Nat) (x : ls_It) : ls_Ef :=
  if x.2.1 = 0 then (x.2.2.1.toInt, 0, (cap : Int)) else if x.2.1 = 1 then (0, x.2.2.1.toInt, (cap : Int))
  else if x.2.1 = 2 then (0, 0, x.2.2.1.toInt) else (0, x.2.2.1.toInt, x.2.2.1.toInt)
def ls_fo (cap : Nat) (e : ls_Ef) (S : List ls_It) : ls_Ef := S.foldl (fun e x => ls_th e (ls_en cap x)) e
def ls_ef (cap : Nat) (S : List ls_It) : ls_Ef := ls_fo cap (0, 0, (cap : Int)) S
def ls_nA : List ls_It → Int
  | [] => 0
  | x :: S => ls_own x + ls_nA S
def ls_lv (S : List ls_It) : List ls_It := S.filter (fun x => !x.2.2.2)
def ls_sv (b : Bool) (x : ls_It) : ls_It := (x.1, x.2.1, x.2.2.1, b)
/-- an effect within its bounds: 60 a step for the addition -/
def ls_vE (cap n : Nat) (e : ls_Ef) : Prop := -(60 * (n : Int)) ≤ e.1 ∧ e.1 ≤ 60 * (n : Int) ∧ 0 ≤ e.2.1 ∧ e.2.1 ≤ e.2.2 ∧ e.2.2 ≤ (cap : Int)
theorem ls_vE_mono {cap n m : Nat} {e : ls_Ef} (h : ls_vE cap n e) (hn : n ≤ m) : ls_vE cap m e := by
  obtain ⟨h1, h2, h3, h4, h5⟩ := h
  exact ⟨by omega, by omega, h3, h4, h5⟩
theorem ls_en_v {cap : Nat} {x : ls_It} (hc : cap ≤ 60) (h : ls_ok cap x) : ls_vE cap 1 (ls_en cap x) := by
  unfold ls_vE ls_en
  rcases h with ⟨hk, h1, h2⟩ | ⟨hk, h1, h2⟩
  · rw [if_pos hk]; dsimp only; omega
  · rcases hk with hk | hk | hk
    · rw [if_neg (by rw [hk]; decide), if_pos hk]; dsimp only; omega
    · rw [if_neg (by rw [hk]; decide), if_neg (by rw [hk]; decide), if_pos hk]; dsimp only; omega
    · rw [if_neg (by rw [hk]; decide), if_neg (by rw [hk]; decide), if_neg (by rw [hk]; decide)]; dsimp only; omega
theorem ls_id_v (cap : Nat) : ls_vE cap 0 (0, 0, (cap : Int)) := by unfold ls_vE; dsimp only; omega
theorem ls_th_v {cap n m : Nat} {e f : ls_Ef} (h : ls_vE cap n e) (k : ls_vE cap m f) : ls_vE cap (n + m) (ls_th e f) := by
  unfold ls_vE ls_th ls_cl at *; dsimp only at *; omega
theorem ls_th_id {cap n : Nat} {e : ls_Ef} (h : ls_vE cap n e) : ls_th e (0, 0, (cap : Int)) = e := by
  obtain ⟨a, l, i⟩ := e
  unfold ls_vE at h; unfold ls_th ls_cl; dsimp only at *
  refine Prod.ext ?_ (Prod.ext ?_ ?_) <;> dsimp only <;> omega
theorem ls_th_as {e f g : ls_Ef} (hf : f.2.1 ≤ f.2.2) (hg : g.2.1 ≤ g.2.2) : ls_th (ls_th e f) g = ls_th e (ls_th f g) := by
  unfold ls_th ls_cl; dsimp only
  refine Prod.ext ?_ (Prod.ext ?_ ?_) <;> dsimp only <;> omega
theorem ls_oks_c {cap : Nat} {x : ls_It} {S : List ls_It} (h : ls_oks cap (x :: S)) : ls_ok cap x ∧ ls_oks cap S :=
  ⟨h x List.mem_cons_self, fun y hy => h y (List.mem_cons_of_mem _ hy)⟩
theorem ls_oks_cons {cap : Nat} {x : ls_It} {S : List ls_It} (h : ls_ok cap x) (k : ls_oks cap S) : ls_oks cap (x :: S) := by
  intro y hy
  rcases List.mem_cons.mp hy with e | e
  · rw [e]; exact h
  · exact k y e
theorem ls_oks_nil (cap : Nat) : ls_oks cap [] := fun x hx => by cases hx
theorem ls_oks_app {cap : Nat} {A B : List ls_It} : ls_oks cap (A ++ B) ↔ ls_oks cap A ∧ ls_oks cap B :=
  ⟨fun h => ⟨fun x hx => h x (List.mem_append_left _ hx), fun x hx => h x (List.mem_append_right _ hx)⟩,
   fun h x hx => (List.mem_append.mp hx).elim (h.1 x) (h.2 x)⟩
theorem ls_oks_rev {cap : Nat} {A : List ls_It} : ls_oks cap A.reverse ↔ ls_oks cap A :=
  ⟨fun h x hx => h x (List.mem_reverse.mpr hx), fun h x hx => h x (List.mem_reverse.mp hx)⟩
theorem ls_oks_lv {cap : Nat} {A : List ls_It} (h : ls_oks cap A) : ls_oks cap (ls_lv A) := fun x hx => h x (List.mem_filter.mp hx).1
theorem ls_oks_sv {cap : Nat} {b : Bool} {A : List ls_It} : ls_oks cap (A.map (ls_sv b)) ↔ ls_oks cap A := by
  constructor
  · intro h x hx
    have := h (ls_sv b x) (List.mem_map_of_mem hx)
    exact this
  · intro h y hy
    obtain ⟨x, hx, rfl⟩ := List.mem_map.mp hy
    exact h x hx
theorem ls_fo_v {cap : Nat} (hc : cap ≤ 60) : ∀ {S : List ls_It} {n : Nat} {e : ls_Ef}, ls_vE cap n e → ls_oks cap S → ls_vE cap (n + S.length) (ls_fo cap e S)
  | [], n, e, h, _ => h
  | x :: S, n, e, h, k => by
    have := ls_fo_v hc (S := S) (ls_th_v h (ls_en_v hc (ls_oks_c k).1)) (ls_oks_c k).2
    have q : n + (x :: S).length = n + 1 + S.length := by rw [List.length_cons]; omega
    rw [q]; exact this
theorem ls_ef_v {cap : Nat} {S : List ls_It} (hc : cap ≤ 60) (h : ls_oks cap S) : ls_vE cap S.length (ls_ef cap S) := by
  have := ls_fo_v hc (ls_id_v cap) h
  rw [Nat.zero_add] at this; exact this
theorem ls_fo_th {cap : Nat} (hc : cap ≤ 60) : ∀ {S : List ls_It} {n : Nat} {e : ls_Ef}, ls_vE cap n e → ls_oks cap S → ls_fo cap e S = ls_th e (ls_ef cap S)
  | [], n, e, h, _ => (ls_th_id h).symm
  | x :: S, n, e, h, k => by
    have hx := ls_en_v hc (ls_oks_c k).1
    have hS := ls_ef_v hc (ls_oks_c k).2
    have h1 : ls_fo cap e (x :: S) = ls_th (ls_th e (ls_en cap x)) (ls_ef cap S) := ls_fo_th hc (S := S) (ls_th_v h hx) (ls_oks_c k).2
    have h2 : ls_ef cap (x :: S) = ls_th (ls_th (0, 0, (cap : Int)) (ls_en cap x)) (ls_ef cap S) := ls_fo_th hc (S := S) (ls_th_v (ls_id_v cap) hx) (ls_oks_c k).2
    have h3 := ls_th_v (ls_id_v cap) hx
    rw [h1, h2, ← ls_th_as h3.2.2.2.1 hS.2.2.2.1, ← ls_th_as (ls_id_v cap).2.2.2.1 hx.2.2.2.1, ls_th_id h]
theorem ls_ef_app {cap : Nat} {A B : List ls_It} (hc : cap ≤ 60) (hA : ls_oks cap A) (hB : ls_oks cap B) : ls_ef cap (A ++ B) = ls_th (ls_ef cap A) (ls_ef cap B) := by
  have : ls_ef cap (A ++ B) = ls_fo cap (ls_ef cap A) B := by unfold ls_ef ls_fo; rw [List.foldl_append]
  rw [this]; exact ls_fo_th hc (ls_ef_v hc hA) hB
theorem ls_ef_nil (cap : Nat) : ls_ef cap [] = (0, 0, (cap : Int)) := rfl
theorem ls_ef_one {cap : Nat} {x : ls_It} : ls_ef cap [x] = ls_th (0, 0, (cap : Int)) (ls_en cap x) := rfl
theorem ls_ef_snoc {cap : Nat} {A : List ls_It} {x : ls_It} : ls_ef cap (A ++ [x]) = ls_th (ls_ef cap A) (ls_en cap x) := by
  unfold ls_ef ls_fo; rw [List.foldl_append]; rfl
theorem ls_id_th {cap : Nat} {A : List ls_It} (hc : cap ≤ 60) (hA : ls_oks cap A) : ls_th (0, 0, (cap : Int)) (ls_ef cap A) = ls_ef cap A := by
  have := ls_ef_app hc (ls_oks_nil cap) hA
  rw [List.nil_append, ls_ef_nil] at this; exact this.symm
theorem ls_ef_mid {cap : Nat} {A B : List ls_It} {x : ls_It} (hc : cap ≤ 60) (hA : ls_oks cap A) (hx : ls_ok cap x) (hB : ls_oks cap B) :
    ls_th (ls_th (ls_ef cap A) (ls_en cap x)) (ls_ef cap B) = ls_ef cap (A ++ x :: B) := by
  rw [← ls_ef_snoc, ← ls_ef_app hc (ls_oks_app.mpr ⟨hA, ls_oks_cons hx (ls_oks_nil cap)⟩) hB, List.append_assoc]; rfl
theorem ls_ef_sv {cap : Nat} {b : Bool} {A : List ls_It} : ls_ef cap (A.map (ls_sv b)) = ls_ef cap A := by
  unfold ls_ef ls_fo; rw [List.foldl_map]; rfl
theorem ls_nA_app : ∀ {A B : List ls_It}, ls_nA (A ++ B) = ls_nA A + ls_nA B
  | [], B => by simp [ls_nA]
  | x :: A, B => by
    have := ls_nA_app (A := A) (B := B)
    show ls_own x + ls_nA (A ++ B) = ls_own x + ls_nA A + ls_nA B
    omega
theorem ls_nA_rev : ∀ {A : List ls_It}, ls_nA A.reverse = ls_nA A
  | [] => rfl
  | x :: A => by
    have := ls_nA_rev (A := A)
    rw [List.reverse_cons, ls_nA_app, this]
    show ls_nA A + (ls_own x + 0) = ls_own x + ls_nA A
    omega
theorem ls_nA_sv {b : Bool} : ∀ {A : List ls_It}, ls_nA (A.map (ls_sv b)) = ls_nA A
  | [] => rfl
  | x :: A => by
    have := ls_nA_sv (b := b) (A := A)
    show ls_own x + ls_nA (A.map (ls_sv b)) = ls_own x + ls_nA A
    omega
theorem ls_own_v {cap : Nat} {x : ls_It} (hc : cap ≤ 60) (h : ls_ok cap x) : -60 ≤ ls_own x ∧ ls_own x ≤ 60 := by
  unfold ls_own
  rcases h with ⟨hk, h1, h2⟩ | ⟨hk, h1, h2⟩
  · rw [if_pos hk]; omega
  · rw [if_neg (by rcases hk with hk | hk | hk <;> rw [hk] <;> decide)]; omega
theorem ls_nA_v {cap : Nat} (hc : cap ≤ 60) : ∀ {S : List ls_It}, ls_oks cap S → -(60 * (S.length : Int)) ≤ ls_nA S ∧ ls_nA S ≤ 60 * (S.length : Int)
  | [], _ => ⟨by simp [ls_nA], by simp [ls_nA]⟩
  | x :: S, h => by
    have h1 := ls_nA_v hc (ls_oks_c h).2
    have h2 := ls_own_v hc (ls_oks_c h).1
    have h3 : ls_nA (x :: S) = ls_own x + ls_nA S := rfl
    rw [h3, List.length_cons]; omega
theorem ls_lv_app {A B : List ls_It} : ls_lv (A ++ B) = ls_lv A ++ ls_lv B := List.filter_append ..
theorem ls_lv_rev {A : List ls_It} : ls_lv A.reverse = (ls_lv A).reverse := List.filter_reverse
theorem ls_lv_le {A : List ls_It} : (ls_lv A).length ≤ A.length := List.length_filter_le ..
theorem ls_lv_svt : ∀ {A : List ls_It}, ls_lv (A.map (ls_sv true)) = []
  | [] => rfl
  | x :: A => ls_lv_svt (A := A)
theorem ls_lv_svf : ∀ {A : List ls_It}, ls_lv (A.map (ls_sv false)) = A.map (ls_sv false)
  | [] => rfl
  | x :: A => congrArg (fun z => ls_sv false x :: z) (ls_lv_svf (A := A))
theorem ls_lv_t {x : ls_It} {A : List ls_It} (h : x.2.2.2 = true) : ls_lv (x :: A) = ls_lv A := by
  unfold ls_lv; rw [List.filter_cons_of_neg]; rw [h]; decide
theorem ls_lv_f {x : ls_It} {A : List ls_It} (h : x.2.2.2 = false) : ls_lv (x :: A) = x :: ls_lv A := by
  unfold ls_lv; rw [List.filter_cons_of_pos]; rw [h]; decide
theorem ls_sv_sv {a b : Bool} {x : ls_It} : ls_sv a (ls_sv b x) = ls_sv a x := rfl
theorem ls_map_sv {a b : Bool} {A : List ls_It} : (A.map (ls_sv b)).map (ls_sv a) = A.map (ls_sv a) := by rw [List.map_map]; rfl
/-! how often a node stands in a list -/
def ls_ct (j : Nat) : List ls_It → Nat
  | [] => 0
  | x :: S => (if x.1 = j then 1 else 0) + ls_ct j S
def ls_u1 (S : List ls_It) : Prop := ∀ j, ls_ct j S ≤ 1
theorem ls_ct_nil (j : Nat) : ls_ct j [] = 0 := rfl
theorem ls_ct_cons {j : Nat} {x : ls_It} {S : List ls_It} : ls_ct j (x :: S) = (if x.1 = j then 1 else 0) + ls_ct j S := rfl
theorem ls_ct_app {j : Nat} : ∀ {A B : List ls_It}, ls_ct j (A ++ B) = ls_ct j A + ls_ct j B
  | [], B => by rw [List.nil_append, ls_ct_nil, Nat.zero_add]
  | x :: A, B => by
    have := ls_ct_app (j := j) (A := A) (B := B)
    rw [List.cons_append, ls_ct_cons, ls_ct_cons, this]; omega
theorem ls_ct_rev {j : Nat} : ∀ {A : List ls_It}, ls_ct j A.reverse = ls_ct j A
  | [] => rfl
  | x :: A => by
    have := ls_ct_rev (j := j) (A := A)
    rw [List.reverse_cons, ls_ct_app, ls_ct_cons, ls_ct_cons, ls_ct_nil, this]; omega
theorem ls_ct_sv {j : Nat} {b : Bool} : ∀ {A : List ls_It}, ls_ct j (A.map (ls_sv b)) = ls_ct j A
  | [] => rfl
  | x :: A => by
    have := ls_ct_sv (j := j) (b := b) (A := A)
    rw [List.map_cons, ls_ct_cons, ls_ct_cons, this]; rfl
theorem ls_ct_self {x : ls_It} {S : List ls_It} {j : Nat} (h : x.1 = j) : ls_ct j (x :: S) = 1 + ls_ct j S := by rw [ls_ct_cons, if_pos h]
/-! what is put off: turning and voiding -/
def ls_tn (t : Bool) (S : List ls_It) : List ls_It := if t then S.reverse else S
def ls_vd (w : Option Bool) (S : List ls_It) : List ls_It := match w with
  | none => S
  | some b => S.map (ls_sv b)
def ls_lz (t : Bool) (w : Option Bool) (S : List ls_It) : List ls_It := ls_tn t (ls_vd w S)
theorem ls_ct_tn {j : Nat} {t : Bool} {S : List ls_It} : ls_ct j (ls_tn t S) = ls_ct j S := by
  cases t
  · rfl
  · exact ls_ct_rev
theorem ls_ct_vd {j : Nat} {w : Option Bool} {S : List ls_It} : ls_ct j (ls_vd w S) = ls_ct j S := by
  cases w
  · rfl
  · exact ls_ct_sv
theorem ls_ct_lz {j : Nat} {t : Bool} {w : Option Bool} {S : List ls_It} : ls_ct j (ls_lz t w S) = ls_ct j S := by
  unfold ls_lz; rw [ls_ct_tn, ls_ct_vd]
theorem ls_oks_lz {cap : Nat} {t : Bool} {w : Option Bool} {S : List ls_It} : ls_oks cap (ls_lz t w S) ↔ ls_oks cap S := by
  unfold ls_lz
  have a : ls_oks cap (ls_vd w S) ↔ ls_oks cap S := by
    cases w
    · exact Iff.rfl
    · exact ls_oks_sv
  cases t
  · exact a
  · exact ls_oks_rev.trans a
theorem ls_lz_nil {t : Bool} {w : Option Bool} : ls_lz t w [] = [] := by cases t <;> cases w <;> rfl
theorem ls_lz_not {t : Bool} {w : Option Bool} {S : List ls_It} : ls_lz (!t) w S = (ls_lz t w S).reverse := by
  unfold ls_lz ls_tn
  cases t
  · rfl
  · exact (List.reverse_reverse _).symm
theorem ls_lz_sv {t b : Bool} {w : Option Bool} {S : List ls_It} : (ls_lz t w S).map (ls_sv b) = ls_lz t (some b) S := by
  unfold ls_lz ls_tn ls_vd
  cases t <;> cases w <;> simp [ls_sv]
theorem ls_lz_fn {S : List ls_It} : ls_lz false none S = S := rfl
theorem ls_len_lz {t : Bool} {w : Option Bool} {S : List ls_It} : (ls_lz t w S).length = S.length := by
  unfold ls_lz ls_tn ls_vd
  cases t <;> cases w <;> simp
end
section
/-! The tree by its nodes' data; what a subtree stands for is a list of items. -/
abbrev ls_E3 : Type := Int32 × Int32 × Int32
/-- left, right, up, kind, amount, isVoid, turnBelow, voidBelow -/
abbrev ls_St : Type := Int32 × Int32 × Int32 × Int32 × Int32 × Int32 × Int32 × Int32
/-- count, live, netAll, netLive, the four effects -/
abbrev ls_Gg : Type := Int32 × Int32 × Int32 × Int32 × ls_E3 × ls_E3 × ls_E3 × ls_E3
abbrev ls_ND : Type := ls_St × ls_Gg
def ls_b (b : Bool) : Int32 := if b then 1 else 0
def ls_w3 : Option Bool → Int32
  | none => 2
  | some b => ls_b b
def ls_st (l r p : Nat) (x : ls_It) (t : Bool) (w : Option Bool) : ls_St := (nI l, nI r, nI p, x.2.1, x.2.2.1, ls_b x.2.2.2, ls_b t, ls_w3 w)
def ls_Ee (t : ls_E3) (e : ls_Ef) : Prop := t.1.toInt = e.1 ∧ t.2.1.toInt = e.2.1 ∧ t.2.2.toInt = e.2.2
def ls_Ag (cap : Nat) (d : ls_Gg) (S : List ls_It) : Prop :=
  d.1 = nI S.length ∧ d.2.1 = nI (ls_lv S).length ∧ d.2.2.1.toInt = ls_nA S ∧ d.2.2.2.1.toInt = ls_nA (ls_lv S) ∧
  ls_Ee d.2.2.2.2.1 (ls_ef cap S) ∧ ls_Ee d.2.2.2.2.2.1 (ls_ef cap S.reverse) ∧
  ls_Ee d.2.2.2.2.2.2.1 (ls_ef cap (ls_lv S)) ∧ ls_Ee d.2.2.2.2.2.2.2 (ls_ef cap (ls_lv S).reverse)
def ls_Sb (cap : Nat) (g : Nat → ls_ND) : Nat → Nat → Nat → List ls_It → Prop
  | 0, i, _, S => i = 0 ∧ S = []
  | k + 1, i, p, S => (i = 0 ∧ S = []) ∨ ∃ (l r : Nat) (A B : List ls_It) (x : ls_It) (t : Bool) (w : Option Bool),
      0 < i ∧ i < 43 ∧ x.1 = i ∧ ls_ok cap x ∧ (g i).1 = ls_st l r p x t w ∧ ls_Sb cap g k l i A ∧ ls_Sb cap g k r i B ∧
      S = ls_lz t w A ++ x :: ls_lz t w B ∧ ls_Ag cap (g i).2 S
/-- the subtree with top i, whose parent is p, stands for S -/
def ls_T (cap : Nat) (g : Nat → ls_ND) (i p : Nat) (S : List ls_It) : Prop := ∃ k, ls_Sb cap g k i p S
section
variable {cap : Nat} {g g' : Nat → ls_ND}
theorem ls_Sb_s : ∀ {k i p : Nat} {S : List ls_It}, ls_Sb cap g k i p S → ls_Sb cap g (k + 1) i p S
  | 0, _, _, _, h => Or.inl h
  | k + 1, _, _, _, h => by
    rcases h with h | ⟨l, r, A, B, x, t, w, h1, h2, h3, h4, h5, h6, h7, h8, h9⟩
    · exact Or.inl h
    · exact Or.inr ⟨l, r, A, B, x, t, w, h1, h2, h3, h4, h5, ls_Sb_s h6, ls_Sb_s h7, h8, h9⟩
theorem ls_Sb_le {k i p : Nat} {S : List ls_It} (h : ls_Sb cap g k i p S) : ∀ m, ls_Sb cap g (k + m) i p S
  | 0 => h
  | m + 1 => ls_Sb_s (ls_Sb_le h m)
theorem ls_T_nil (p : Nat) : ls_T cap g 0 p [] := ⟨0, rfl, rfl⟩
theorem ls_T_nd {i p l r : Nat} {A B : List ls_It} {x : ls_It} {t : Bool} {w : Option Bool} (h1 : 0 < i) (h2 : i < 43) (h3 : x.1 = i) (h4 : ls_ok cap x)
    (h5 : (g i).1 = ls_st l r p x t w) (h6 : ls_T cap g l i A) (h7 : ls_T cap g r i B) (h9 : ls_Ag cap (g i).2 (ls_lz t w A ++ x :: ls_lz t w B)) :
    ls_T cap g i p (ls_lz t w A ++ x :: ls_lz t w B) := by
  obtain ⟨k, hk⟩ := h6
  obtain ⟨m, hm⟩ := h7
  refine ⟨k + m + 1, Or.inr ⟨l, r, A, B, x, t, w, h1, h2, h3, h4, h5, ls_Sb_le hk m, ?_, rfl, h9⟩⟩
  have := ls_Sb_le hm k
  rw [Nat.add_comm] at this; exact this
theorem ls_T_ind {P : Nat → Nat → List ls_It → Prop} (h0 : ∀ p, P 0 p [])
    (hs : ∀ (i p l r : Nat) (A B : List ls_It) (x : ls_It) (t : Bool) (w : Option Bool), 0 < i → i < 43 → x.1 = i → ls_ok cap x → (g i).1 = ls_st l r p x t w →
      ls_T cap g l i A → ls_T cap g r i B → P l i A → P r i B → ls_Ag cap (g i).2 (ls_lz t w A ++ x :: ls_lz t w B) → P i p (ls_lz t w A ++ x :: ls_lz t w B)) :
    ∀ {i p : Nat} {S : List ls_It}, ls_T cap g i p S → P i p S := by
  have key : ∀ k i p S, ls_Sb cap g k i p S → P i p S := by
    intro k
    induction k with
    | zero => intro i p S h; obtain ⟨h1, h2⟩ := h; subst h1; subst h2; exact h0 p
    | succ k ih =>
      intro i p S h
      rcases h with ⟨h1, h2⟩ | ⟨l, r, A, B, x, t, w, h1, h2, h3, h4, h5, h6, h7, h8, h9⟩
      · subst h1; subst h2; exact h0 p
      · subst h8
        exact hs i p l r A B x t w h1 h2 h3 h4 h5 ⟨k, h6⟩ ⟨k, h7⟩ (ih _ _ _ h6) (ih _ _ _ h7) h9
  intro i p S h
  obtain ⟨k, hk⟩ := h
  exact key k i p S hk
theorem ls_T_inv {i p : Nat} {S : List ls_It} (h : ls_T cap g i p S) : (i = 0 ∧ S = []) ∨ ∃ (l r : Nat) (A B : List ls_It) (x : ls_It) (t : Bool) (w : Option Bool),
      0 < i ∧ i < 43 ∧ x.1 = i ∧ ls_ok cap x ∧ (g i).1 = ls_st l r p x t w ∧ ls_T cap g l i A ∧ ls_T cap g r i B ∧
      S = ls_lz t w A ++ x :: ls_lz t w B ∧ ls_Ag cap (g i).2 S := by
  refine ls_T_ind (P := fun i p S => (i = 0 ∧ S = []) ∨ ∃ (l r : Nat) (A B : List ls_It) (x : ls_It) (t : Bool) (w : Option Bool),
      0 < i ∧ i < 43 ∧ x.1 = i ∧ ls_ok cap x ∧ (g i).1 = ls_st l r p x t w ∧ ls_T cap g l i A ∧ ls_T cap g r i B ∧
      S = ls_lz t w A ++ x :: ls_lz t w B ∧ ls_Ag cap (g i).2 S) ?_ ?_ h
  · intro p; exact Or.inl ⟨rfl, rfl⟩
  · intro i p l r A B x t w h1 h2 h3 h4 h5 h6 h7 _ _ h8
    exact Or.inr ⟨l, r, A, B, x, t, w, h1, h2, h3, h4, h5, h6, h7, rfl, h8⟩
theorem ls_T_lt {i p : Nat} {S : List ls_It} (h : ls_T cap g i p S) : i < 43 := by
  rcases ls_T_inv h with ⟨h1, _⟩ | ⟨l, r, A, B, x, t, w, h1, h2, _⟩
  · omega
  · exact h2
theorem ls_T_0 {p : Nat} {S : List ls_It} (h : ls_T cap g 0 p S) : S = [] := by
  rcases ls_T_inv h with ⟨_, h1⟩ | ⟨l, r, A, B, x, t, w, h1, h2, _⟩
  · exact h1
  · omega
theorem ls_T_e {i p : Nat} (h : ls_T cap g i p []) : i = 0 := by
  rcases ls_T_inv h with ⟨h1, _⟩ | ⟨l, r, A, B, x, t, w, h1, h2, _, _, _, _, _, h8, _⟩
  · exact h1
  · have := congrArg List.length h8
    rw [List.length_append, List.length_cons, List.length_nil] at this; omega
theorem ls_T_oks {i p : Nat} {S : List ls_It} (h : ls_T cap g i p S) : ls_oks cap S := by
  refine ls_T_ind (P := fun _ _ S => ls_oks cap S) (fun _ => ls_oks_nil cap) ?_ h
  intro i p l r A B x t w _ _ _ h4 _ _ _ hA hB _
  exact ls_oks_app.mpr ⟨ls_oks_lz.mpr hA, ls_oks_cons h4 (ls_oks_lz.mpr hB)⟩
theorem ls_T_in {i p : Nat} {S : List ls_It} (h : ls_T cap g i p S) : ∀ j, 0 < ls_ct j S → 0 < j ∧ j < 43 := by
  refine ls_T_ind (P := fun _ _ S => ∀ j, 0 < ls_ct j S → 0 < j ∧ j < 43) (fun _ j hj => ?_) ?_ h
  · rw [ls_ct_nil] at hj; omega
  · intro i p l r A B x t w h1 h2 h3 _ _ _ _ hA hB _ j hj
    rw [ls_ct_app, ls_ct_cons, ls_ct_lz, ls_ct_lz] at hj
    by_cases e : x.1 = j
    · omega
    · rw [if_neg e] at hj
      by_cases z : 0 < ls_ct j A
      · exact hA j z
      · exact hB j (by omega)
theorem ls_T_self {i p : Nat} {S : List ls_It} (h : ls_T cap g i p S) (hi : i ≠ 0) : 0 < ls_ct i S := by
  rcases ls_T_inv h with ⟨h1, _⟩ | ⟨l, r, A, B, x, t, w, h1, h2, h3, _, _, _, _, h8, _⟩
  · exact absurd h1 hi
  · rw [h8, ls_ct_app, ls_ct_self h3]; omega
theorem ls_T_fr {i p : Nat} {S : List ls_It} (h : ls_T cap g i p S) : (∀ j, 0 < ls_ct j S → g' j = g j) → ls_T cap g' i p S := by
  refine ls_T_ind (P := fun i p S => (∀ j, 0 < ls_ct j S → g' j = g j) → ls_T cap g' i p S) (fun p _ => ls_T_nil p) ?_ h
  intro i p l r A B x t w h1 h2 h3 h4 h5 _ _ hA hB h9 hf
  have e : g' i = g i := hf i (by rw [ls_ct_app, ls_ct_self h3]; omega)
  refine ls_T_nd h1 h2 h3 h4 (by rw [e]; exact h5) (hA fun j hj => hf j ?_) (hB fun j hj => hf j ?_) (by rw [e]; exact h9)
  · rw [ls_ct_app, ls_ct_cons, ls_ct_lz, ls_ct_lz]; omega
  · rw [ls_ct_app, ls_ct_cons, ls_ct_lz, ls_ct_lz]; omega
theorem ls_T_Ag {i p : Nat} {S : List ls_It} (h : ls_T cap g i p S) (h0 : ls_Ag cap (g 0).2 []) : ls_Ag cap (g i).2 S := by
  rcases ls_T_inv h with ⟨h1, h2⟩ | ⟨l, r, A, B, x, t, w, h1, h2, h3, _, _, _, _, h8, h9⟩
  · rw [h1, h2]; exact h0
  · exact h9
/-- the parent set anew -/
def ls_uS (p : Nat) (s : ls_St) : ls_St := (s.1, s.2.1, nI p, s.2.2.2)
theorem ls_T_up {i q p : Nat} {S : List ls_It} (h : ls_T cap g i q S) (hu : ls_u1 S) (hf : ∀ j, 0 < ls_ct j S → j ≠ i → g' j = g j)
    (hi : i ≠ 0 → g' i = (ls_uS p (g i).1, (g i).2)) : ls_T cap g' i p S := by
  rcases ls_T_inv h with ⟨h1, h2⟩ | ⟨l, r, A, B, x, t, w, h1, h2, h3, h4, h5, h6, h7, h8, h9⟩
  · subst h1; subst h2; exact ls_T_nil p
  · subst h8
    have e := hi (by omega)
    have hx := hu i
    rw [ls_ct_app, ls_ct_self h3, ls_ct_lz, ls_ct_lz] at hx
    refine ls_T_nd h1 h2 h3 h4 (by rw [e, h5]; rfl) (ls_T_fr h6 fun j hj => hf j ?_ ?_) (ls_T_fr h7 fun j hj => hf j ?_ ?_) (by rw [e]; exact h9)
    · rw [ls_ct_app, ls_ct_cons, ls_ct_lz, ls_ct_lz]; omega
    · intro z; rw [z] at hj; omega
    · rw [ls_ct_app, ls_ct_cons, ls_ct_lz, ls_ct_lz]; omega
    · intro z; rw [z] at hj; omega
/-! turning a subtree -/
def ls_tS (s : ls_St) : ls_St := (s.2.1, s.1, s.2.2.1, s.2.2.2.1, s.2.2.2.2.1, s.2.2.2.2.2.1, (if s.2.2.2.2.2.2.1 = 0 then 1 else 0), s.2.2.2.2.2.2.2)
def ls_tG (d : ls_Gg) : ls_Gg := (d.1, d.2.1, d.2.2.1, d.2.2.2.1, d.2.2.2.2.2.1, d.2.2.2.2.1, d.2.2.2.2.2.2.2, d.2.2.2.2.2.2.1)
theorem ls_tS_st {l r p : Nat} {x : ls_It} {t : Bool} {w : Option Bool} : ls_tS (ls_st l r p x t w) = ls_st r l p x (!t) w := by
  unfold ls_tS ls_st ls_b; cases t <;> rfl
theorem ls_tG_Ag {d : ls_Gg} {S : List ls_It} (h : ls_Ag cap d S) : ls_Ag cap (ls_tG d) S.reverse := by
  obtain ⟨h1, h2, h3, h4, h5, h6, h7, h8⟩ := h
  unfold ls_Ag
  rw [List.length_reverse, ls_lv_rev, List.length_reverse, ls_nA_rev, ls_nA_rev, List.reverse_reverse, List.reverse_reverse]
  exact ⟨h1, h2, h3, h4, h6, h5, h8, h7⟩
theorem ls_T_turn {i p : Nat} {S : List ls_It} (h : ls_T cap g i p S) (hu : ls_u1 S) (hf : ∀ j, 0 < ls_ct j S → j ≠ i → g' j = g j)
    (hi : i ≠ 0 → g' i = (ls_tS (g i).1, ls_tG (g i).2)) : ls_T cap g' i p S.reverse := by
  rcases ls_T_inv h with ⟨h1, h2⟩ | ⟨l, r, A, B, x, t, w, h1, h2, h3, h4, h5, h6, h7, h8, h9⟩
  · subst h1; subst h2; exact ls_T_nil p
  · subst h8
    have e := hi (by omega)
    have hx := hu i
    rw [ls_ct_app, ls_ct_self h3, ls_ct_lz, ls_ct_lz] at hx
    have q : (ls_lz t w A ++ x :: ls_lz t w B).reverse = ls_lz (!t) w B ++ x :: ls_lz (!t) w A := by
      rw [ls_lz_not, ls_lz_not, List.reverse_append, List.reverse_cons, List.append_assoc]; rfl
    have a := ls_tG_Ag h9
    rw [q] at a ⊢
    refine ls_T_nd h1 h2 h3 h4 (by rw [e, h5]; exact ls_tS_st) (ls_T_fr h7 fun j hj => hf j ?_ ?_) (ls_T_fr h6 fun j hj => hf j ?_ ?_) (by rw [e]; exact a)
    · rw [ls_ct_app, ls_ct_cons, ls_ct_lz, ls_ct_lz]; omega
    · intro z; rw [z] at hj; omega
    · rw [ls_ct_app, ls_ct_cons, ls_ct_lz, ls_ct_lz]; omega
    · intro z; rw [z] at hj; omega
/-! voiding a subtree -/
def ls_pS (b : Bool) (s : ls_St) : ls_St := (s.1, s.2.1, s.2.2.1, s.2.2.2.1, s.2.2.2.2.1, ls_b b, s.2.2.2.2.2.2.1, ls_b b)
def ls_pG (c : Int32) (b : Bool) (d : ls_Gg) : ls_Gg := (d.1, (if b then 0 else d.1), d.2.2.1, (if b then 0 else d.2.2.1), d.2.2.2.2.1, d.2.2.2.2.2.1, (if b then (0, 0, c) else d.2.2.2.2.1), (if b then (0, 0, c) else d.2.2.2.2.2.1))
theorem ls_pG_Ag {d : ls_Gg} {b : Bool} {S : List ls_It} (hc : cap ≤ 60) (h : ls_Ag cap d S) : ls_Ag cap (ls_pG (nI cap) b d) (S.map (ls_sv b)) := by
  obtain ⟨h1, h2, h3, h4, h5, h6, h7, h8⟩ := h
  have hr : (S.map (ls_sv b)).reverse = S.reverse.map (ls_sv b) := List.map_reverse.symm
  cases b
  · unfold ls_Ag
    rw [ls_lv_svf, hr, ls_ef_sv, ls_ef_sv, List.length_map, ls_nA_sv]
    exact ⟨h1, h1, h3, h3, h5, h6, h5, h6⟩
  · unfold ls_Ag
    rw [ls_lv_svt, hr, ls_ef_sv, ls_ef_sv, List.length_map, ls_nA_sv]
    have z : ls_Ee (0, 0, nI cap) (ls_ef cap []) := ⟨Int32.toInt_zero, Int32.toInt_zero, nI_toInt (by omega)⟩
    exact ⟨h1, nI_0.symm, h3, Int32.toInt_zero, h5, h6, z, z⟩
theorem ls_T_paint {i p : Nat} {b : Bool} {S : List ls_It} (hc : cap ≤ 60) (h : ls_T cap g i p S) (hu : ls_u1 S) (hf : ∀ j, 0 < ls_ct j S → j ≠ i → g' j = g j)
    (hi : i ≠ 0 → g' i = (ls_pS b (g i).1, ls_pG (nI cap) b (g i).2)) : ls_T cap g' i p (S.map (ls_sv b)) := by
  rcases ls_T_inv h with ⟨h1, h2⟩ | ⟨l, r, A, B, x, t, w, h1, h2, h3, h4, h5, h6, h7, h8, h9⟩
  · subst h1; subst h2; exact ls_T_nil p
  · subst h8
    have e := hi (by omega)
    have hx := hu i
    rw [ls_ct_app, ls_ct_self h3, ls_ct_lz, ls_ct_lz] at hx
    have q : (ls_lz t w A ++ x :: ls_lz t w B).map (ls_sv b) = ls_lz t (some b) A ++ ls_sv b x :: ls_lz t (some b) B := by
      rw [List.map_append, List.map_cons, ls_lz_sv, ls_lz_sv]
    have a := ls_pG_Ag (b := b) hc h9
    rw [q] at a ⊢
    refine ls_T_nd (l := l) (r := r) h1 h2 h3 h4 (by rw [e, h5]; rfl) (ls_T_fr h6 fun j hj => hf j ?_ ?_) (ls_T_fr h7 fun j hj => hf j ?_ ?_) (by rw [e]; exact a)
    · rw [ls_ct_app, ls_ct_cons, ls_ct_lz, ls_ct_lz]; omega
    · intro z; rw [z] at hj; omega
    · rw [ls_ct_app, ls_ct_cons, ls_ct_lz, ls_ct_lz]; omega
    · intro z; rw [z] at hj; omega
/-! an open node: nothing put off -/
def ls_On (cap : Nat) (g : Nat → ls_ND) (i p l r : Nat) (A : List ls_It) (x : ls_It) (B : List ls_It) : Prop :=
  0 < i ∧ i < 43 ∧ x.1 = i ∧ ls_ok cap x ∧ (g i).1 = ls_st l r p x false none ∧ ls_T cap g l i A ∧ ls_T cap g r i B ∧ ls_Ag cap (g i).2 (A ++ x :: B)
theorem ls_On_T {i p l r : Nat} {A B : List ls_It} {x : ls_It} (h : ls_On cap g i p l r A x B) : ls_T cap g i p (A ++ x :: B) := by
  obtain ⟨h1, h2, h3, h4, h5, h6, h7, h8⟩ := h
  exact ls_T_nd (t := false) (w := none) h1 h2 h3 h4 h5 h6 h7 h8
theorem ls_On_fr {i p l r : Nat} {A B : List ls_It} {x : ls_It} (h : ls_On cap g i p l r A x B) (hf : ∀ j, 0 < ls_ct j (A ++ x :: B) → g' j = g j) : ls_On cap g' i p l r A x B := by
  obtain ⟨h1, h2, h3, h4, h5, h6, h7, h8⟩ := h
  have e : g' i = g i := hf i (by rw [ls_ct_app, ls_ct_self h3]; omega)
  refine ⟨h1, h2, h3, h4, by rw [e]; exact h5, ls_T_fr h6 fun j hj => hf j ?_, ls_T_fr h7 fun j hj => hf j ?_, by rw [e]; exact h8⟩
  · rw [ls_ct_app, ls_ct_cons]; omega
  · rw [ls_ct_app, ls_ct_cons]; omega
/-! the way up: frames of open nodes; 'false': the hole is the left child -/
end
abbrev ls_Fm : Type := Bool × ls_It × List ls_It
def ls_par : List ls_Fm → Nat
  | [] => 0
  | f :: _ => f.2.1.1
def ls_pl (d : Bool) (y : ls_It) (C S : List ls_It) : List ls_It := if d then C ++ y :: S else S ++ y :: C
def ls_fs (d : Bool) (i c p : Nat) (y : ls_It) : ls_St := if d then ls_st c i p y false none else ls_st i c p y false none
def ls_C (cap : Nat) (g : Nat → ls_ND) : List ls_Fm → Nat → List ls_It → Prop
  | [], _, _ => True
  | (d, y, C) :: Z, i, S => ∃ c, 0 < y.1 ∧ y.1 < 43 ∧ ls_ok cap y ∧ (g y.1).1 = ls_fs d i c (ls_par Z) y ∧ ls_T cap g c y.1 C ∧
      ls_Ag cap (g y.1).2 (ls_pl d y C S) ∧ ls_C cap g Z y.1 (ls_pl d y C S)
def ls_lq : List ls_Fm → List ls_It
  | [] => []
  | (false, _, _) :: Z => ls_lq Z
  | (true, y, C) :: Z => ls_lq Z ++ (C ++ [y])
def ls_rq : List ls_Fm → List ls_It
  | [] => []
  | (false, y, C) :: Z => (y :: C) ++ ls_rq Z
  | (true, _, _) :: Z => ls_rq Z
section
variable {cap : Nat} {g g' : Nat → ls_ND}
theorem ls_ct_pl {j : Nat} {d : Bool} {y : ls_It} {C S : List ls_It} : ls_ct j (ls_pl d y C S) = ls_ct j S + (if y.1 = j then 1 else 0) + ls_ct j C := by
  cases d
  · show ls_ct j (S ++ y :: C) = _; rw [ls_ct_app, ls_ct_cons]; omega
  · show ls_ct j (C ++ y :: S) = _; rw [ls_ct_app, ls_ct_cons]; omega
theorem ls_ct_q {j : Nat} {d : Bool} {y : ls_It} {C : List ls_It} {Z : List ls_Fm} :
    ls_ct j (ls_lq ((d, y, C) :: Z)) + ls_ct j (ls_rq ((d, y, C) :: Z)) = (if y.1 = j then 1 else 0) + ls_ct j C + ls_ct j (ls_lq Z) + ls_ct j (ls_rq Z) := by
  cases d
  · show ls_ct j (ls_lq Z) + ls_ct j ((y :: C) ++ ls_rq Z) = _; rw [ls_ct_app, ls_ct_cons]; omega
  · show ls_ct j (ls_lq Z ++ (C ++ [y])) + ls_ct j (ls_rq Z) = _; rw [ls_ct_app, ls_ct_app, ls_ct_cons, ls_ct_nil]; omega
theorem ls_full {d : Bool} {y : ls_It} {C S : List ls_It} {Z : List ls_Fm} :
    ls_lq ((d, y, C) :: Z) ++ S ++ ls_rq ((d, y, C) :: Z) = ls_lq Z ++ ls_pl d y C S ++ ls_rq Z := by
  cases d
  · show ls_lq Z ++ S ++ ((y :: C) ++ ls_rq Z) = ls_lq Z ++ (S ++ y :: C) ++ ls_rq Z
    simp only [List.append_assoc]
  · show (ls_lq Z ++ (C ++ [y])) ++ S ++ ls_rq Z = ls_lq Z ++ (C ++ y :: S) ++ ls_rq Z
    simp only [List.append_assoc, List.cons_append, List.nil_append]
theorem ls_C_fr : ∀ {Z : List ls_Fm} {i : Nat} {S : List ls_It}, ls_C cap g Z i S → (∀ j, 0 < ls_ct j (ls_lq Z) + ls_ct j (ls_rq Z) → g' j = g j) → ls_C cap g' Z i S
  | [], _, _, _, _ => True.intro
  | (d, y, C) :: Z, i, S, h, hf => by
    obtain ⟨c, h1, h2, h3, h4, h5, h6, h7⟩ := h
    have e : g' y.1 = g y.1 := hf y.1 (by rw [ls_ct_q, if_pos rfl]; omega)
    refine ⟨c, h1, h2, h3, by rw [e]; exact h4, ls_T_fr h5 fun j hj => hf j ?_, by rw [e]; exact h6, ls_C_fr h7 fun j hj => hf j ?_⟩
    · rw [ls_ct_q]; omega
    · rw [ls_ct_q]; omega
theorem ls_C_len : ∀ {Z : List ls_Fm}, Z.length ≤ (ls_lq Z).length + (ls_rq Z).length
  | [] => Nat.le_refl _
  | (false, y, C) :: Z => by
    have := ls_C_len (Z := Z)
    show Z.length + 1 ≤ (ls_lq Z).length + ((y :: C) ++ ls_rq Z).length
    rw [List.length_append, List.length_cons]; omega
  | (true, y, C) :: Z => by
    have := ls_C_len (Z := Z)
    show Z.length + 1 ≤ (ls_lq Z ++ (C ++ [y])).length + (ls_rq Z).length
    rw [List.length_append, List.length_append, List.length_singleton]; omega
theorem ls_C_par {Z : List ls_Fm} {i : Nat} {S : List ls_It} (h : ls_C cap g Z i S) : ls_par Z < 43 ∧ (Z ≠ [] → 0 < ls_par Z) := by
  cases Z with
  | nil => exact ⟨by show 0 < 43; omega, fun z => absurd rfl z⟩
  | cons f Z =>
    obtain ⟨d, y, C⟩ := f
    obtain ⟨c, h1, h2, _⟩ := h
    exact ⟨h2, fun _ => h1⟩
end
end
section
/-! The class's state seen node by node. -/
def ls_nv (u : SX) (j : Nat) : ls_ND := match u with
  | (f_spares, f_root, f_entries, f_cap, f_room, f_accAdd, f_accLow, f_accHigh, a_left, a_right, a_up, a_count, a_kind, a_amount, a_isVoid, a_turnBelow, a_voidBelow, a_live, a_netAll, a_netLive, a_add, a_low, a_high, a_spare, a_copyKind, a_copyAmount, a_copyVoid) => ((a_left j, a_right j, a_up j, a_kind j, a_amount j, a_isVoid j, a_turnBelow j, a_voidBelow j),
      (a_count j, a_live j, a_netAll j, a_netLive j, (a_add (j * 4 + 0), a_low (j * 4 + 0), a_high (j * 4 + 0)), (a_add (j * 4 + 1), a_low (j * 4 + 1), a_high (j * 4 + 1)),
        (a_add (j * 4 + 2), a_low (j * 4 + 2), a_high (j * 4 + 2)), (a_add (j * 4 + 3), a_low (j * 4 + 3), a_high (j * 4 + 3))))
/-- spares, entries, cap, room, and what no walk in the tree touches -/
def ls_sc (u : SX) : Int32 × Int32 × Int32 × Int32 × (Nat → Int32) × (Nat → Int32) × (Nat → Int32) × (Nat → Int32) := match u with
  | (f_spares, f_root, f_entries, f_cap, f_room, f_accAdd, f_accLow, f_accHigh, a_left, a_right, a_up, a_count, a_kind, a_amount, a_isVoid, a_turnBelow, a_voidBelow, a_live, a_netAll, a_netLive, a_add, a_low, a_high, a_spare, a_copyKind, a_copyAmount, a_copyVoid) => (f_spares, f_entries, f_cap, f_room, a_spare, a_copyKind, a_copyAmount, a_copyVoid)
def ls_ro (u : SX) : Int32 := match u with
  | (f_spares, f_root, f_entries, f_cap, f_room, f_accAdd, f_accLow, f_accHigh, a_left, a_right, a_up, a_count, a_kind, a_amount, a_isVoid, a_turnBelow, a_voidBelow, a_live, a_netAll, a_netLive, a_add, a_low, a_high, a_spare, a_copyKind, a_copyAmount, a_copyVoid) => f_root
def ls_cp (u : SX) : Int32 := match u with
  | (f_spares, f_root, f_entries, f_cap, f_room, f_accAdd, f_accLow, f_accHigh, a_left, a_right, a_up, a_count, a_kind, a_amount, a_isVoid, a_turnBelow, a_voidBelow, a_live, a_netAll, a_netLive, a_add, a_low, a_high, a_spare, a_copyKind, a_copyAmount, a_copyVoid) => f_cap
theorem ls_cp_sc {u u' : SX} (h : ls_sc u' = ls_sc u) : ls_cp u' = ls_cp u := by
  obtain ⟨f_spares1, f_root1, f_entries1, f_cap1, f_room1, f_accAdd1, f_accLow1, f_accHigh1, a_left1, a_right1, a_up1, a_count1, a_kind1, a_amount1, a_isVoid1, a_turnBelow1, a_voidBelow1, a_live1, a_netAll1, a_netLive1, a_add1, a_low1, a_high1, a_spare1, a_copyKind1, a_copyAmount1, a_copyVoid1⟩ := u
  obtain ⟨f_spares2, f_root2, f_entries2, f_cap2, f_room2, f_accAdd2, f_accLow2, f_accHigh2, a_left2, a_right2, a_up2, a_count2, a_kind2, a_amount2, a_isVoid2, a_turnBelow2, a_voidBelow2, a_live2, a_netAll2, a_netLive2, a_add2, a_low2, a_high2, a_spare2, a_copyKind2, a_copyAmount2, a_copyVoid2⟩ := u'
  exact congrArg (fun z => z.2.2.1) h
section
variable {f_spares f_root f_entries f_cap f_room f_accAdd f_accLow f_accHigh : Int32} {a_left a_right a_up a_count a_kind a_amount a_isVoid a_turnBelow a_voidBelow a_live a_netAll a_netLive a_add a_low a_high a_spare a_copyKind a_copyAmount a_copyVoid : Nat → Int32}
theorem ls_us {f : Nat → Int32} {k j : Nat} {x : Int32} (h : j = k) : upd f k x j = x := by unfold upd; rw [if_pos h]
theorem ls_un {f : Nat → Int32} {k j : Nat} {x : Int32} (h : j ≠ k) : upd f k x j = f j := by unfold upd; rw [if_neg h]
theorem ls_cln {n : Nat} (h : n < 2 ^ 31) : (nI n).toNatClampNeg = n := nI_clamp h
theorem ls_in43 {n : Nat} (h : n < 43) : vp_in (nI n) 43 := vp_in_nI h (by omega)
theorem ls_in172 {n : Nat} (h : n < 172) : vp_in (nI n) 172 := vp_in_nI h (by omega)
theorem ls_mul4 (n v : Nat) : nI n * 4 + nI v = nI (n * 4 + v) := by
  have h : nI n * 4 = nI (n * 4) := (Int32.ofNat_mul n 4).symm
  rw [h, nI_add]
theorem ls_narb (b : Bool) : vp_nar .boolean (ls_b b) = ls_b b := by cases b <;> rfl
theorem ls_b_eq0 {b : Bool} : ls_b b = 0 ↔ b = false := by cases b <;> decide
/-! clamped -/
theorem ls_clamped {post : Int32 → Prop} {x l h : Int32} (hl : l.toInt ≤ h.toInt) (K : ∀ r : Int32, r.toInt = ls_cl x.toInt l.toInt h.toInt → post r) : wpX_clamped post x l h := by
  unfold wpX_clamped
  refine br_c (fun h1 => br_c (fun h2 => K _ ?_) (fun h2 => K _ ?_)) (fun h1 => K _ ?_) <;>
    rw [Int32.le_iff_toInt_le] at h1 <;> try rw [Int32.le_iff_toInt_le] at h2
  all_goals (unfold ls_cl; omega)
/-! the running effect -/
theorem ls_thE {post : SX → Prop} {cap n m : Nat} {p0 p1 p2 : Int32} {e f : ls_Ef} (hc : cap ≤ 60) (hn : n ≤ 100000) (hm : m ≤ 100000)
    (he : ls_Ee (f_accAdd, f_accLow, f_accHigh) e) (hf : ls_Ee (p0, p1, p2) f) (hv : ls_vE cap n e) (hw : ls_vE cap m f)
    (K : ∀ t1 t2 t3 : Int32, ls_Ee (t1, t2, t3) (ls_th e f) → post (f_spares, f_root, f_entries, f_cap, f_room, t1, t2, t3, a_left, a_right, a_up, a_count, a_kind, a_amount, a_isVoid, a_turnBelow, a_voidBelow, a_live, a_netAll, a_netLive, a_add, a_low, a_high, a_spare, a_copyKind, a_copyAmount, a_copyVoid)) :
    wpX_thenEffect post (f_spares, f_root, f_entries, f_cap, f_room, f_accAdd, f_accLow, f_accHigh, a_left, a_right, a_up, a_count, a_kind, a_amount, a_isVoid, a_turnBelow, a_voidBelow, a_live, a_netAll, a_netLive, a_add, a_low, a_high, a_spare, a_copyKind, a_copyAmount, a_copyVoid) p0 p1 p2 := by
  obtain ⟨e1, e2, e3⟩ := he
  obtain ⟨f1, f2, f3⟩ := hf
  obtain ⟨v1, v2, v3, v4, v5⟩ := hv
  obtain ⟨w1, w2, w3, w4, w5⟩ := hw
  dsimp only at e1 e2 e3 f1 f2 f3
  have s1 : (f_accLow + p0).toInt = e.2.1 + f.1 := by rw [Jvm.Kit.i32_add] <;> omega
  have s2 : (f_accHigh + p0).toInt = e.2.2 + f.1 := by rw [Jvm.Kit.i32_add] <;> omega
  have s3 : (f_accAdd + p0).toInt = e.1 + f.1 := by rw [Jvm.Kit.i32_add] <;> omega
  unfold wpX_thenEffect
  refine ls_clamped (by omega) fun r1 h1 => ls_clamped (by omega) fun r2 h2 => nm_e (K _ _ _ ⟨s3, ?_, ?_⟩)
  · show r1.toInt = ls_cl (e.2.1 + f.1) f.2.1 f.2.2
    rw [h1, s1, f2, f3]
  · show r2.toInt = ls_cl (e.2.2 + f.1) f.2.1 f.2.2
    rw [h2, s2, f2, f3]
theorem ls_thN {post : SX → Prop} {cap n i : Nat} {q : Int32} {e : ls_Ef} {x : ls_It} (hq : q = nI i) (hi : i < 43) (hc : cap ≤ 60) (hn : n ≤ 100000) (hcap : f_cap = nI cap)
    (hk : a_kind i = x.2.1) (ha : a_amount i = x.2.2.1) (hx : ls_ok cap x)
    (he : ls_Ee (f_accAdd, f_accLow, f_accHigh) e) (hv : ls_vE cap n e)
    (K : ∀ t1 t2 t3 : Int32, ls_Ee (t1, t2, t3) (ls_th e (ls_en cap x)) → post (f_spares, f_root, f_entries, f_cap, f_room, t1, t2, t3, a_left, a_right, a_up, a_count, a_kind, a_amount, a_isVoid, a_turnBelow, a_voidBelow, a_live, a_netAll, a_netLive, a_add, a_low, a_high, a_spare, a_copyKind, a_copyAmount, a_copyVoid)) :
    wpX_thenEntry post (f_spares, f_root, f_entries, f_cap, f_room, f_accAdd, f_accLow, f_accHigh, a_left, a_right, a_up, a_count, a_kind, a_amount, a_isVoid, a_turnBelow, a_voidBelow, a_live, a_netAll, a_netLive, a_add, a_low, a_high, a_spare, a_copyKind, a_copyAmount, a_copyVoid) q := by
  subst hq
  have hin := ls_in43 hi
  have cl := ls_cln (n := i) (by omega)
  have ek : a_kind (nI i).toNatClampNeg = x.2.1 := by rw [cl, hk]
  have ea : a_amount (nI i).toNatClampNeg = x.2.2.1 := by rw [cl, ha]
  have hw := ls_en_v hc hx
  have hcI : f_cap.toInt = (cap : Int) := by rw [hcap]; exact nI_toInt (by omega)
  unfold wpX_thenEntry
  refine ⟨hin, nm_r ea ⟨hin, br_c (fun h => ?_) (fun h => ⟨hin, br_c (fun h' => ?_) (fun h' => ⟨hin, br_c (fun h'' => ?_) (fun h'' => ?_)⟩)⟩)⟩⟩
  · rw [ek] at h
    have z : ls_en cap x = (x.2.2.1.toInt, 0, (cap : Int)) := by unfold ls_en; rw [if_pos h]
    exact ls_thE (post := fun u => match u with | (f_spares1, f_root1, f_entries1, f_cap1, f_room1, f_accAdd1, f_accLow1, f_accHigh1, a_left1, a_right1, a_up1, a_count1, a_kind1, a_amount1, a_isVoid1, a_turnBelow1, a_voidBelow1, a_live1, a_netAll1, a_netLive1, a_add1, a_low1, a_high1, a_spare1, a_copyKind1, a_copyAmount1, a_copyVoid1) => post (f_spares1, f_root1, f_entries1, f_cap1, f_room1, f_accAdd1, f_accLow1, f_accHigh1, a_left1, a_right1, a_up1, a_count1, a_kind1, a_amount1, a_isVoid1, a_turnBelow1, a_voidBelow1, a_live1, a_netAll1, a_netLive1, a_add1, a_low1, a_high1, a_spare1, a_copyKind1, a_copyAmount1, a_copyVoid1)) hc hn (by omega : 1 ≤ 100000) he (f := ls_en cap x) (by rw [z]; exact ⟨rfl, Int32.toInt_zero, hcI⟩) hv hw K
  · rw [ek] at h h'
    have z : ls_en cap x = (0, x.2.2.1.toInt, (cap : Int)) := by unfold ls_en; rw [if_neg h, if_pos h']
    exact ls_thE (post := fun u => match u with | (f_spares1, f_root1, f_entries1, f_cap1, f_room1, f_accAdd1, f_accLow1, f_accHigh1, a_left1, a_right1, a_up1, a_count1, a_kind1, a_amount1, a_isVoid1, a_turnBelow1, a_voidBelow1, a_live1, a_netAll1, a_netLive1, a_add1, a_low1, a_high1, a_spare1, a_copyKind1, a_copyAmount1, a_copyVoid1) => post (f_spares1, f_root1, f_entries1, f_cap1, f_room1, f_accAdd1, f_accLow1, f_accHigh1, a_left1, a_right1, a_up1, a_count1, a_kind1, a_amount1, a_isVoid1, a_turnBelow1, a_voidBelow1, a_live1, a_netAll1, a_netLive1, a_add1, a_low1, a_high1, a_spare1, a_copyKind1, a_copyAmount1, a_copyVoid1)) hc hn (by omega : 1 ≤ 100000) he (f := ls_en cap x) (by rw [z]; exact ⟨Int32.toInt_zero, rfl, hcI⟩) hv hw K
  · rw [ek] at h h' h''
    have z : ls_en cap x = (0, 0, x.2.2.1.toInt) := by unfold ls_en; rw [if_neg h, if_neg h', if_pos h'']
    exact ls_thE (post := fun u => match u with | (f_spares1, f_root1, f_entries1, f_cap1, f_room1, f_accAdd1, f_accLow1, f_accHigh1, a_left1, a_right1, a_up1, a_count1, a_kind1, a_amount1, a_isVoid1, a_turnBelow1, a_voidBelow1, a_live1, a_netAll1, a_netLive1, a_add1, a_low1, a_high1, a_spare1, a_copyKind1, a_copyAmount1, a_copyVoid1) => post (f_spares1, f_root1, f_entries1, f_cap1, f_room1, f_accAdd1, f_accLow1, f_accHigh1, a_left1, a_right1, a_up1, a_count1, a_kind1, a_amount1, a_isVoid1, a_turnBelow1, a_voidBelow1, a_live1, a_netAll1, a_netLive1, a_add1, a_low1, a_high1, a_spare1, a_copyKind1, a_copyAmount1, a_copyVoid1)) hc hn (by omega : 1 ≤ 100000) he (f := ls_en cap x) (by rw [z]; exact ⟨Int32.toInt_zero, Int32.toInt_zero, rfl⟩) hv hw K
  · rw [ek] at h h' h''
    have z : ls_en cap x = (0, x.2.2.1.toInt, x.2.2.1.toInt) := by unfold ls_en; rw [if_neg h, if_neg h', if_neg h'']
    exact ls_thE (post := fun u => match u with | (f_spares1, f_root1, f_entries1, f_cap1, f_room1, f_accAdd1, f_accLow1, f_accHigh1, a_left1, a_right1, a_up1, a_count1, a_kind1, a_amount1, a_isVoid1, a_turnBelow1, a_voidBelow1, a_live1, a_netAll1, a_netLive1, a_add1, a_low1, a_high1, a_spare1, a_copyKind1, a_copyAmount1, a_copyVoid1) => post (f_spares1, f_root1, f_entries1, f_cap1, f_room1, f_accAdd1, f_accLow1, f_accHigh1, a_left1, a_right1, a_up1, a_count1, a_kind1, a_amount1, a_isVoid1, a_turnBelow1, a_voidBelow1, a_live1, a_netAll1, a_netLive1, a_add1, a_low1, a_high1, a_spare1, a_copyKind1, a_copyAmount1, a_copyVoid1)) hc hn (by omega : 1 ≤ 100000) he (f := ls_en cap x) (by rw [z]; exact ⟨Int32.toInt_zero, rfl, rfl⟩) hv hw K
end
end
section
/-! pull -/
abbrev ls_J : Type := Int32 → Int32 → Int32 → Int32 → Int32 → Int32 → Int32 → Int32 → Int32 → (Nat → Int32) → (Nat → Int32) → (Nat → Int32) → (Nat → Int32) → (Nat → Int32) → (Nat → Int32) → (Nat → Int32) → (Nat → Int32) → (Nat → Int32) → (Nat → Int32) → (Nat → Int32) → (Nat → Int32) → (Nat → Int32) → (Nat → Int32) → (Nat → Int32) → (Nat → Int32) → (Nat → Int32) → (Nat → Int32) → (Nat → Int32) → Prop
section
variable {f_spares f_root f_entries f_cap f_room f_accAdd f_accLow f_accHigh : Int32} {a_left a_right a_up a_count a_kind a_amount a_isVoid a_turnBelow a_voidBelow a_live a_netAll a_netLive a_add a_low a_high a_spare a_copyKind a_copyAmount a_copyVoid : Nat → Int32}
theorem ls_p249 {post : SX → Prop} {J : ls_J} {x2 x3 x5 : Int32} {cap i v s n m : Nat} {e f : ls_Ef} (hc : cap ≤ 60) (hi : i < 43) (hv4 : v < 4) (hs : s < 43) (hn : n ≤ 100000) (hm : m ≤ 100000)
    (he : ls_Ee (f_accAdd, f_accLow, f_accHigh) e) (hf : ls_Ee (a_add (s * 4 + v), a_low (s * 4 + v), a_high (s * 4 + v)) f) (hv : ls_vE cap n e) (hw : ls_vE cap m f)
    (K : ∀ t1 t2 t3 : Int32, ls_Ee (t1, t2, t3) (ls_th e f) → J (nI (v + 1)) f_spares f_root f_entries f_cap f_room t1 t2 t3 a_left a_right a_up a_count a_kind a_amount a_isVoid a_turnBelow a_voidBelow a_live a_netAll a_netLive (upd a_add (i * 4 + v) t1) (upd a_low (i * 4 + v) t2) (upd a_high (i * 4 + v) t3) a_spare a_copyKind a_copyAmount a_copyVoid) :
    wX_pull_249 post J (nI i) x2 x3 x5 (nI v) (nI (s * 4 + v)) f_spares f_root f_entries f_cap f_room f_accAdd f_accLow f_accHigh a_left a_right a_up a_count a_kind a_amount a_isVoid a_turnBelow a_voidBelow a_live a_netAll a_netLive a_add a_low a_high a_spare a_copyKind a_copyAmount a_copyVoid := by
  have hin := ls_in172 (n := s * 4 + v) (by omega)
  have c1 : (nI (s * 4 + v)).toNatClampNeg = s * 4 + v := ls_cln (by omega)
  have hin2 : vp_in (nI i * 4 + nI v) 172 := by rw [ls_mul4]; exact ls_in172 (by omega)
  have c2 : (nI i * 4 + nI v).toNatClampNeg = i * 4 + v := by rw [ls_mul4]; exact ls_cln (by omega)
  unfold wX_pull_249
  refine ⟨hin, hin, hin, ls_thE (e := e) (f := f) hc hn hm he (by rw [c1]; exact hf) hv hw fun t1 t2 t3 ht => ?_⟩
  exact And.intro hin2 (nm_r (e' := upd a_add (i * 4 + v) t1) (by rw [c2]) (And.intro hin2 (nm_r (e' := upd a_low (i * 4 + v) t2) (by rw [c2])
    (And.intro hin2 (nm_r (e' := upd a_high (i * 4 + v) t3) (by rw [c2]) (nm_r (e' := nI (v + 1)) (nI_1 v) (K t1 t2 t3 ht)))))))
theorem ls_p197 {post : SX → Prop} {J : ls_J} {x2 x3 : Int32} {cap i v f s : Nat} {F G M : List ls_It} {x : ls_It} (hc : cap ≤ 60) (hcap : f_cap = nI cap) (hi : i < 43) (hv4 : v < 4) (hf43 : f < 43) (hs : s < 43)
    (oF : ls_oks cap F) (oG : ls_oks cap G) (ox : ls_ok cap x) (lF : F.length ≤ 1000) (lG : G.length ≤ 1000)
    (hk : a_kind i = x.2.1) (ha : a_amount i = x.2.2.1)
    (hF : ls_Ee (a_add (f * 4 + v), a_low (f * 4 + v), a_high (f * 4 + v)) (ls_ef cap F)) (hG : ls_Ee (a_add (s * 4 + v), a_low (s * 4 + v), a_high (s * 4 + v)) (ls_ef cap G))
    (hM : v < 2 ∨ x.2.2.2 = false → M = [x]) (hM' : 2 ≤ v → x.2.2.2 = true → M = [])
    (K : ∀ t1 t2 t3 : Int32, ls_Ee (t1, t2, t3) (ls_ef cap (F ++ M ++ G)) → J (nI (v + 1)) f_spares f_root f_entries f_cap f_room t1 t2 t3 a_left a_right a_up a_count a_kind a_amount a_isVoid a_turnBelow a_voidBelow a_live a_netAll a_netLive (upd a_add (i * 4 + v) t1) (upd a_low (i * 4 + v) t2) (upd a_high (i * 4 + v) t3) a_spare a_copyKind a_copyAmount a_copyVoid) :
    wX_pull_197 post J (nI i) x2 x3 (ls_b x.2.2.2) (nI v) (nI (f * 4 + v)) (nI s) f_spares f_root f_entries f_cap f_room f_accAdd f_accLow f_accHigh a_left a_right a_up a_count a_kind a_amount a_isVoid a_turnBelow a_voidBelow a_live a_netAll a_netLive a_add a_low a_high a_spare a_copyKind a_copyAmount a_copyVoid := by
  have hin := ls_in172 (n := f * 4 + v) (by omega)
  have c1 : (nI (f * 4 + v)).toNatClampNeg = f * 4 + v := ls_cln (by omega)
  have vF := ls_ef_v hc oF
  have vG := ls_ef_v hc oG
  have vx := ls_en_v hc ox
  have hcI : f_cap.toInt = (cap : Int) := by rw [hcap]; exact nI_toInt (by omega)
  have withx : M = [x] → ∀ t1 t2 t3 : Int32, ls_Ee (t1, t2, t3) (ls_ef cap F) → wX_pull_244 post J (nI i) x2 x3 (ls_b x.2.2.2) (nI v) (nI (s * 4 + v)) f_spares f_root f_entries f_cap f_room t1 t2 t3 a_left a_right a_up a_count a_kind a_amount a_isVoid a_turnBelow a_voidBelow a_live a_netAll a_netLive a_add a_low a_high a_spare a_copyKind a_copyAmount a_copyVoid := by
    intro eM t1 t2 t3 ht
    unfold wX_pull_244
    refine ls_thN (x := x) (e := ls_ef cap F) rfl hi hc (by omega : F.length ≤ 100000) hcap hk ha ox ht vF fun q1 q2 q3 hq => ?_
    refine ls_p249 (e := ls_th (ls_ef cap F) (ls_en cap x)) (f := ls_ef cap G) (n := F.length + 1) (m := G.length) hc hi hv4 hs (by omega) (by omega) hq hG (ls_th_v vF vx) vG fun w1 w2 w3 hw => K w1 w2 w3 ?_
    rw [eM, List.append_assoc, List.singleton_append, ← ls_ef_mid hc oF ox oG]; exact hw
  have nox : M = [] → ∀ t1 t2 t3 : Int32, ls_Ee (t1, t2, t3) (ls_ef cap F) → wX_pull_249 post J (nI i) x2 x3 (ls_b x.2.2.2) (nI v) (nI (s * 4 + v)) f_spares f_root f_entries f_cap f_room t1 t2 t3 a_left a_right a_up a_count a_kind a_amount a_isVoid a_turnBelow a_voidBelow a_live a_netAll a_netLive a_add a_low a_high a_spare a_copyKind a_copyAmount a_copyVoid := by
    intro eM t1 t2 t3 ht
    refine ls_p249 (e := ls_ef cap F) (f := ls_ef cap G) (n := F.length) (m := G.length) hc hi hv4 hs (by omega) (by omega) ht hG vF vG fun w1 w2 w3 hw => K w1 w2 w3 ?_
    rw [eM, List.append_nil, ls_ef_app hc oF oG]; exact hw
  have h2 : nI v < 2 ↔ v < 2 := nI_ltI (a := v) (b := 2) (by omega) (by omega)
  unfold wX_pull_197
  refine nm_r (e' := nI (s * 4 + v)) (ls_mul4 s v) ?_
  refine And.intro hin (And.intro hin (And.intro hin ?_))
  refine ls_thE (e := (0, 0, (cap : Int))) (f := ls_ef cap F) (n := 0) (m := F.length) hc (by omega) (by omega) ⟨Int32.toInt_zero, Int32.toInt_zero, hcI⟩ (by rw [c1]; exact hF) (ls_id_v cap) vF fun t1 t2 t3 ht => ?_
  rw [ls_id_th hc oF] at ht
  refine br_c (fun h => withx (hM (Or.inl (h2.mp h))) t1 t2 t3 ht) (fun h => br_c (fun h' => withx (hM (Or.inr (ls_b_eq0.mp h'))) t1 t2 t3 ht) (fun h' => nox (hM' ?_ ?_) t1 t2 t3 ht))
  · rw [h2] at h; omega
  · rw [ls_b_eq0] at h'; exact (Bool.not_eq_false _).mp h'
theorem ls_pE {post : SX → Prop} {cap i v l r n : Nat} {F G M : List ls_It} {x : ls_It} (h1 : nI v &&& 1 = 0) (hc : cap ≤ 60) (hcap : f_cap = nI cap) (hi : i < 43) (hv4 : v < 4) (hl : l < 43) (hr : r < 43)
    (oF : ls_oks cap F) (oG : ls_oks cap G) (ox : ls_ok cap x) (lF : F.length ≤ 1000) (lG : G.length ≤ 1000)
    (hk : a_kind i = x.2.1) (ha : a_amount i = x.2.2.1)
    (hF : ls_Ee (a_add (l * 4 + v), a_low (l * 4 + v), a_high (l * 4 + v)) (ls_ef cap F)) (hG : ls_Ee (a_add (r * 4 + v), a_low (r * 4 + v), a_high (r * 4 + v)) (ls_ef cap G))
    (hM : v < 2 ∨ x.2.2.2 = false → M = [x]) (hM' : 2 ≤ v → x.2.2.2 = true → M = [])
    (K : ∀ t1 t2 t3 : Int32, ls_Ee (t1, t2, t3) (ls_ef cap (F ++ M ++ G)) → wX_pull_150 post (nI i) (nI l) (nI r) (ls_b x.2.2.2) n (nI (v + 1)) f_spares f_root f_entries f_cap f_room t1 t2 t3 a_left a_right a_up a_count a_kind a_amount a_isVoid a_turnBelow a_voidBelow a_live a_netAll a_netLive (upd a_add (i * 4 + v) t1) (upd a_low (i * 4 + v) t2) (upd a_high (i * 4 + v) t3) a_spare a_copyKind a_copyAmount a_copyVoid) :
    wX_pull_150 post (nI i) (nI l) (nI r) (ls_b x.2.2.2) (n + 1) (nI v) f_spares f_root f_entries f_cap f_room f_accAdd f_accLow f_accHigh a_left a_right a_up a_count a_kind a_amount a_isVoid a_turnBelow a_voidBelow a_live a_netAll a_netLive a_add a_low a_high a_spare a_copyKind a_copyAmount a_copyVoid := by
  have h4 : ¬ (4 : Int32) ≤ nI v := nI_ge (a := v) (b := 4) hv4 (by omega)
  refine br_f h4 (br_t h1 ?_)
  unfold wX_pull_168
  refine br_f (by decide) ?_
  unfold wX_pull_180
  refine nm_r (e' := nI (l * 4 + v)) (ls_mul4 l v) (br_f (by decide) ?_)
  exact ls_p197 hc hcap hi hv4 hl hr oF oG ox lF lG hk ha hF hG hM hM' K
theorem ls_pO {post : SX → Prop} {cap i v l r n : Nat} {F G M : List ls_It} {x : ls_It} (h1 : ¬ nI v &&& 1 = 0) (hc : cap ≤ 60) (hcap : f_cap = nI cap) (hi : i < 43) (hv4 : v < 4) (hl : l < 43) (hr : r < 43)
    (oF : ls_oks cap F) (oG : ls_oks cap G) (ox : ls_ok cap x) (lF : F.length ≤ 1000) (lG : G.length ≤ 1000)
    (hk : a_kind i = x.2.1) (ha : a_amount i = x.2.2.1)
    (hF : ls_Ee (a_add (r * 4 + v), a_low (r * 4 + v), a_high (r * 4 + v)) (ls_ef cap F)) (hG : ls_Ee (a_add (l * 4 + v), a_low (l * 4 + v), a_high (l * 4 + v)) (ls_ef cap G))
    (hM : v < 2 ∨ x.2.2.2 = false → M = [x]) (hM' : 2 ≤ v → x.2.2.2 = true → M = [])
    (K : ∀ t1 t2 t3 : Int32, ls_Ee (t1, t2, t3) (ls_ef cap (F ++ M ++ G)) → wX_pull_150 post (nI i) (nI l) (nI r) (ls_b x.2.2.2) n (nI (v + 1)) f_spares f_root f_entries f_cap f_room t1 t2 t3 a_left a_right a_up a_count a_kind a_amount a_isVoid a_turnBelow a_voidBelow a_live a_netAll a_netLive (upd a_add (i * 4 + v) t1) (upd a_low (i * 4 + v) t2) (upd a_high (i * 4 + v) t3) a_spare a_copyKind a_copyAmount a_copyVoid) :
    wX_pull_150 post (nI i) (nI l) (nI r) (ls_b x.2.2.2) (n + 1) (nI v) f_spares f_root f_entries f_cap f_room f_accAdd f_accLow f_accHigh a_left a_right a_up a_count a_kind a_amount a_isVoid a_turnBelow a_voidBelow a_live a_netAll a_netLive a_add a_low a_high a_spare a_copyKind a_copyAmount a_copyVoid := by
  have h4 : ¬ (4 : Int32) ≤ nI v := nI_ge (a := v) (b := 4) hv4 (by omega)
  refine br_f h4 (br_f h1 ?_)
  unfold wX_pull_168
  refine br_t (by decide) ?_
  unfold wX_pull_180
  refine nm_r (e' := nI (r * 4 + v)) (ls_mul4 r v) (br_t (by decide) ?_)
  exact ls_p197 hc hcap hi hv4 hr hl oF oG ox lF lG hk ha hF hG hM hM' K
end
theorem ls_lv1 {x : ls_It} : (ls_lv [x]).reverse = ls_lv [x] := by
  cases h : x.2.2.2
  · rw [ls_lv_f h]; rfl
  · rw [ls_lv_t h]; rfl
theorem ls_Ag_mid {cap : Nat} {A B : List ls_It} {x : ls_It} {d : ls_Gg} (h1 : d.1 = nI (A.length + B.length + 1)) (h2 : d.2.1 = nI ((ls_lv A).length + (ls_lv B).length + (ls_lv [x]).length))
    (h3 : d.2.2.1.toInt = ls_nA A + ls_nA B + ls_own x) (h4 : d.2.2.2.1.toInt = ls_nA (ls_lv A) + ls_nA (ls_lv B) + ls_nA (ls_lv [x]))
    (h5 : ls_Ee d.2.2.2.2.1 (ls_ef cap (A ++ [x] ++ B))) (h6 : ls_Ee d.2.2.2.2.2.1 (ls_ef cap (B.reverse ++ [x] ++ A.reverse)))
    (h7 : ls_Ee d.2.2.2.2.2.2.1 (ls_ef cap (ls_lv A ++ ls_lv [x] ++ ls_lv B))) (h8 : ls_Ee d.2.2.2.2.2.2.2 (ls_ef cap ((ls_lv B).reverse ++ ls_lv [x] ++ (ls_lv A).reverse))) :
    ls_Ag cap d (A ++ x :: B) := by
  have e : A ++ x :: B = A ++ [x] ++ B := by rw [List.append_assoc]; rfl
  have el : ls_lv (A ++ [x] ++ B) = ls_lv A ++ ls_lv [x] ++ ls_lv B := by rw [ls_lv_app, ls_lv_app]
  have er : (A ++ [x] ++ B).reverse = B.reverse ++ [x] ++ A.reverse := by
    rw [List.reverse_append, List.reverse_append, List.reverse_singleton, List.append_assoc]
  have elr : (ls_lv A ++ ls_lv [x] ++ ls_lv B).reverse = (ls_lv B).reverse ++ ls_lv [x] ++ (ls_lv A).reverse := by
    rw [List.reverse_append, List.reverse_append, ls_lv1, List.append_assoc]
  unfold ls_Ag
  rw [e, el, er, elr]
  refine ⟨?_, ?_, ?_, ?_, h5, h6, h7, h8⟩
  · rw [h1, List.length_append, List.length_append, List.length_singleton]; congr 1; omega
  · rw [h2, List.length_append, List.length_append]; congr 1; omega
  · rw [h3, ls_nA_app, ls_nA_app]
    have : ls_nA [x] = ls_own x := by show ls_own x + 0 = _; omega
    omega
  · rw [h4, ls_nA_app, ls_nA_app]; omega
end
section
section
variable {f_spares f_root f_entries f_cap f_room f_accAdd f_accLow f_accHigh : Int32} {a_left a_right a_up a_count a_kind a_amount a_isVoid a_turnBelow a_voidBelow a_live a_netAll a_netLive a_add a_low a_high a_spare a_copyKind a_copyAmount a_copyVoid : Nat → Int32}
theorem ls_us' {f : Nat → Int32} {k : Nat} {x : Int32} : upd f k x k = x := ls_us rfl
theorem ls_own3 {a b c : Int32} {x y z : Int} (ha : a.toInt = x) (hb : b.toInt = y) (hc : c.toInt = z) (hx : -100000 ≤ x ∧ x ≤ 100000) (hy : -100000 ≤ y ∧ y ≤ 100000) (hz : -100000 ≤ z ∧ z ≤ 100000) :
    (a + b + c).toInt = x + y + z := by
  have h : (a + b).toInt = x + y := by rw [Jvm.Kit.i32_add] <;> omega
  rw [Jvm.Kit.i32_add] <;> omega
theorem ls_pull {u : SX} {cap i l r p : Nat} {x : ls_It} {t : Bool} {w : Option Bool} {A B : List ls_It} {q : Int32} {post : SX → Prop} (hq : q = nI i) (hc : cap ≤ 60) (hcap : ls_cp u = nI cap)
    (hi : i < 43) (hl : l < 43) (hr : r < 43) (li : l ≠ i) (ri : r ≠ i) (hst : (ls_nv u i).1 = ls_st l r p x t w) (hA : ls_Ag cap (ls_nv u l).2 A) (hB : ls_Ag cap (ls_nv u r).2 B)
    (oA : ls_oks cap A) (oB : ls_oks cap B) (ox : ls_ok cap x) (lA : A.length ≤ 1000) (lB : B.length ≤ 1000)
    (K : ∀ u' : SX, ls_sc u' = ls_sc u → ls_ro u' = ls_ro u → (ls_nv u' i).1 = (ls_nv u i).1 → ls_Ag cap (ls_nv u' i).2 (A ++ x :: B) → (∀ j, j ≠ i → ls_nv u' j = ls_nv u j) → post u') :
    wpX_pull post u q := by
  subst hq
  obtain ⟨f_spares, f_root, f_entries, f_cap, f_room, f_accAdd, f_accLow, f_accHigh, a_left, a_right, a_up, a_count, a_kind, a_amount, a_isVoid, a_turnBelow, a_voidBelow, a_live, a_netAll, a_netLive, a_add, a_low, a_high, a_spare, a_copyKind, a_copyAmount, a_copyVoid⟩ := u
  have e1 : a_left i = nI l := congrArg (fun z => z.1) hst
  have e2 : a_right i = nI r := congrArg (fun z => z.2.1) hst
  have e4 : a_kind i = x.2.1 := congrArg (fun z => z.2.2.2.1) hst
  have e5 : a_amount i = x.2.2.1 := congrArg (fun z => z.2.2.2.2.1) hst
  have e6 : a_isVoid i = ls_b x.2.2.2 := congrArg (fun z => z.2.2.2.2.2.1) hst
  have hcap' : f_cap = nI cap := hcap
  obtain ⟨A1, A2, A3, A4, A5, A6, A7, A8⟩ := hA
  obtain ⟨B1, B2, B3, B4, B5, B6, B7, B8⟩ := hB
  dsimp only [ls_nv] at A1 A2 A3 A4 A5 A6 A7 A8 B1 B2 B3 B4 B5 B6 B7 B8
  have hin := ls_in43 hi
  have hinl := ls_in43 hl
  have hinr := ls_in43 hr
  have c := ls_cln (n := i) (by omega)
  have cl := ls_cln (n := l) (by omega)
  have cr := ls_cln (n := r) (by omega)
  have lvA := ls_lv_le (A := A)
  have lvB := ls_lv_le (A := B)
  have oA' := ls_oks_rev.mpr oA
  have oB' := ls_oks_rev.mpr oB
  have oAl := ls_oks_lv oA
  have oBl := ls_oks_lv oB
  have nAA := ls_nA_v hc oA
  have nAB := ls_nA_v hc oB
  have nLA := ls_nA_v hc oAl
  have nLB := ls_nA_v hc oBl
  have nx := ls_own_v hc ox
  have key : ∀ cc gg aa nn : Int32, cc = nI (A.length + B.length + 1) → gg = nI ((ls_lv A).length + (ls_lv B).length + (ls_lv [x]).length) →
      aa.toInt = ls_nA A + ls_nA B + ls_own x → nn.toInt = ls_nA (ls_lv A) + ls_nA (ls_lv B) + ls_nA (ls_lv [x]) →
      wX_pull_150 post (nI i) (nI l) (nI r) (ls_b x.2.2.2) 5 0 f_spares f_root f_entries f_cap f_room f_accAdd f_accLow f_accHigh a_left a_right a_up (upd a_count i cc) a_kind a_amount a_isVoid a_turnBelow a_voidBelow (upd a_live i gg) (upd a_netAll i aa) (upd a_netLive i nn) a_add a_low a_high a_spare a_copyKind a_copyAmount a_copyVoid := by
    intro cc gg aa nn hcc hgg haa hnn
    refine ls_pE (v := 0) (n := 4) (F := A) (G := B) (M := [x]) (by decide) hc hcap' hi (by omega) hl hr oA oB ox lA lB e4 e5 A5 B5 (fun _ => rfl) (fun h => by omega) fun t1 t2 t3 ht => ?_
    refine ls_pO (v := 1) (n := 3) (F := B.reverse) (G := A.reverse) (M := [x]) (by decide) hc hcap' hi (by omega) hl hr oB' oA' ox (by rw [List.length_reverse]; exact lB) (by rw [List.length_reverse]; exact lA) e4 e5
      (by simp (disch := omega) only [ls_un]; exact B6) (by simp (disch := omega) only [ls_un]; exact A6) (fun _ => rfl) (fun h => by omega) fun s1 s2 s3 hs => ?_
    refine ls_pE (v := 2) (n := 2) (F := ls_lv A) (G := ls_lv B) (M := ls_lv [x]) (by decide) hc hcap' hi (by omega) hl hr oAl oBl ox (by omega) (by omega) e4 e5
      (by simp (disch := omega) only [ls_un]; exact A7) (by simp (disch := omega) only [ls_un]; exact B7) (fun h => ls_lv_f (h.resolve_left (by omega))) (fun _ h => ls_lv_t h) fun v1 v2 v3 hv => ?_
    refine ls_pO (v := 3) (n := 1) (F := (ls_lv B).reverse) (G := (ls_lv A).reverse) (M := ls_lv [x]) (by decide) hc hcap' hi (by omega) hl hr (ls_oks_rev.mpr oBl) (ls_oks_rev.mpr oAl) ox (by rw [List.length_reverse]; omega) (by rw [List.length_reverse]; omega) e4 e5
      (by simp (disch := omega) only [ls_un]; exact B8) (by simp (disch := omega) only [ls_un]; exact A8) (fun h => ls_lv_f (h.resolve_left (by omega))) (fun _ h => ls_lv_t h) fun w1 w2 w3 hw => ?_
    refine br_t (nI_le (a := 4) (b := 4) (by omega) (by omega)) (K _ rfl rfl rfl (ls_Ag_mid ?_ ?_ ?_ ?_ ?_ ?_ ?_ ?_) fun j hj => ?_)
    · dsimp only [ls_nv]; rw [ls_us']; exact hcc
    · dsimp only [ls_nv]; rw [ls_us']; exact hgg
    · dsimp only [ls_nv]; rw [ls_us']; exact haa
    · dsimp only [ls_nv]; rw [ls_us']; exact hnn
    · dsimp only [ls_nv]; simp (disch := omega) only [ls_un, ls_us']; exact ht
    · dsimp only [ls_nv]; simp (disch := omega) only [ls_un, ls_us']; exact hs
    · dsimp only [ls_nv]; simp (disch := omega) only [ls_un, ls_us']; exact hv
    · dsimp only [ls_nv]; simp (disch := omega) only [ls_un, ls_us']; exact hw
    · dsimp only [ls_nv]; simp (disch := omega) only [ls_un]
  have k92 : ∀ ow z0 : Int32, ow.toInt = ls_own x → z0 = nI (ls_lv [x]).length →
      wX_pull_92 post (nI i) (nI l) (nI r) ow (ls_b x.2.2.2) z0 (a_live (nI l).toNatClampNeg + a_live (nI r).toNatClampNeg) (nI i) f_spares f_root f_entries f_cap f_room f_accAdd f_accLow f_accHigh a_left a_right a_up (upd a_count i (nI (A.length + B.length + 1))) a_kind a_amount a_isVoid a_turnBelow a_voidBelow a_live a_netAll a_netLive a_add a_low a_high a_spare a_copyKind a_copyAmount a_copyVoid := by
    intro ow z0 how hz
    unfold wX_pull_92
    refine ⟨hin, nm_r (e' := upd a_live i (nI ((ls_lv A).length + (ls_lv B).length + (ls_lv [x]).length))) (by rw [c, cl, cr, A2, B2, hz, nI_add, nI_add])
      ⟨hinl, hinr, hin, nm_r (e' := upd a_netAll i (a_netAll l + a_netAll r + ow)) (by rw [c, cl, cr]) ⟨hinl, hinr, br_c (fun h => ?_) (fun h => ?_)⟩⟩⟩
    · refine ⟨hin, nm_r (e' := upd a_netLive i (a_netLive l + a_netLive r + ow)) (by rw [c, cl, cr]) ⟨5, key _ _ _ _ rfl rfl ?_ ?_⟩⟩
      · exact ls_own3 A3 B3 how (by omega) (by omega) (by omega)
      · have : ls_nA (ls_lv [x]) = ls_own x := by
          rw [ls_lv_f (ls_b_eq0.mp h)]; show ls_own x + 0 = _; omega
        rw [this]
        exact ls_own3 A4 B4 how (by omega) (by omega) (by omega)
    · refine ⟨hin, nm_r (e' := upd a_netLive i (a_netLive l + a_netLive r + 0)) (by rw [c, cl, cr]) ⟨5, key _ _ _ _ rfl rfl ?_ ?_⟩⟩
      · exact ls_own3 A3 B3 how (by omega) (by omega) (by omega)
      · have : ls_nA (ls_lv [x]) = 0 := by
          rw [ls_b_eq0] at h
          rw [ls_lv_t ((Bool.not_eq_false _).mp h)]; rfl
        rw [this]
        exact ls_own3 A4 B4 Int32.toInt_zero (by omega) (by omega) (by omega)
  have k33 : ∀ ow : Int32, ow.toInt = ls_own x → wX_pull_33 post (nI i) (nI l) (nI r) ow f_spares f_root f_entries f_cap f_room f_accAdd f_accLow f_accHigh a_left a_right a_up a_count a_kind a_amount a_isVoid a_turnBelow a_voidBelow a_live a_netAll a_netLive a_add a_low a_high a_spare a_copyKind a_copyAmount a_copyVoid := by
    intro ow how
    unfold wX_pull_33
    refine ⟨hin, nm_r (e' := ls_b x.2.2.2) (by rw [c]; exact e6) ⟨hinl, hinr, hin, nm_r (e' := upd a_count i (nI (A.length + B.length + 1))) (by rw [c, cl, cr, A1, B1, nI_add, nI_1])
      ⟨hinl, hinr, br_c (fun h => k92 ow 1 how ?_) (fun h => k92 ow 0 how ?_)⟩⟩⟩
    · rw [ls_lv_f (ls_b_eq0.mp h)]; rfl
    · rw [ls_b_eq0] at h
      rw [ls_lv_t ((Bool.not_eq_false _).mp h)]; rfl
  unfold wpX_pull
  refine ⟨hin, nm_r (e' := nI l) (by rw [c]; exact e1) ⟨hin, nm_r (e' := nI r) (by rw [c]; exact e2) ⟨hin, br_c (fun h => ⟨hin, k33 _ ?_⟩) (fun h => k33 0 ?_)⟩⟩⟩
  · rw [c, e4] at h
    rw [c, e5]; unfold ls_own; rw [if_pos h]
  · rw [c, e4] at h
    unfold ls_own; rw [if_neg h]; exact Int32.toInt_zero
end
end
section
/-! paint, turn, push -/
theorem ls_sub {a b : Nat} (h : b ≤ a) : nI a - nI b = nI (a - b) := by
  obtain ⟨c, rfl⟩ : ∃ c, a = c + b := ⟨a - b, by omega⟩
  rw [← nI_add, Int32.add_sub_cancel, Nat.add_sub_cancel]
/-! equal parts of two states, by unification alone (a comparison of two long tuples by the kernel costs 3 to the place where they differ) -/
section
variable {f_spares f_root f_entries f_cap f_room f_accAdd f_accLow f_accHigh : Int32} {a_left a_right a_up a_count a_kind a_amount a_isVoid a_turnBelow a_voidBelow a_live a_netAll a_netLive a_add a_low a_high a_spare a_copyKind a_copyAmount a_copyVoid : Nat → Int32} {f_spares_a f_root_a f_entries_a f_cap_a f_room_a f_accAdd_a f_accLow_a f_accHigh_a : Int32} {a_left_a a_right_a a_up_a a_count_a a_kind_a a_amount_a a_isVoid_a a_turnBelow_a a_voidBelow_a a_live_a a_netAll_a a_netLive_a a_add_a a_low_a a_high_a a_spare_a a_copyKind_a a_copyAmount_a a_copyVoid_a : Nat → Int32} {f_spares_b f_root_b f_entries_b f_cap_b f_room_b f_accAdd_b f_accLow_b f_accHigh_b : Int32} {a_left_b a_right_b a_up_b a_count_b a_kind_b a_amount_b a_isVoid_b a_turnBelow_b a_voidBelow_b a_live_b a_netAll_b a_netLive_b a_add_b a_low_b a_high_b a_spare_b a_copyKind_b a_copyAmount_b a_copyVoid_b : Nat → Int32}
theorem ls_scX : ls_sc (f_spares, f_root_a, f_entries, f_cap, f_room, f_accAdd_a, f_accLow_a, f_accHigh_a, a_left_a, a_right_a, a_up_a, a_count_a, a_kind_a, a_amount_a, a_isVoid_a, a_turnBelow_a, a_voidBelow_a, a_live_a, a_netAll_a, a_netLive_a, a_add_a, a_low_a, a_high_a, a_spare, a_copyKind, a_copyAmount, a_copyVoid) = ls_sc (f_spares, f_root_b, f_entries, f_cap, f_room, f_accAdd_b, f_accLow_b, f_accHigh_b, a_left_b, a_right_b, a_up_b, a_count_b, a_kind_b, a_amount_b, a_isVoid_b, a_turnBelow_b, a_voidBelow_b, a_live_b, a_netAll_b, a_netLive_b, a_add_b, a_low_b, a_high_b, a_spare, a_copyKind, a_copyAmount, a_copyVoid) := rfl
theorem ls_roX : ls_ro (f_spares_a, f_root, f_entries_a, f_cap_a, f_room_a, f_accAdd_a, f_accLow_a, f_accHigh_a, a_left_a, a_right_a, a_up_a, a_count_a, a_kind_a, a_amount_a, a_isVoid_a, a_turnBelow_a, a_voidBelow_a, a_live_a, a_netAll_a, a_netLive_a, a_add_a, a_low_a, a_high_a, a_spare_a, a_copyKind_a, a_copyAmount_a, a_copyVoid_a) = ls_ro (f_spares_b, f_root, f_entries_b, f_cap_b, f_room_b, f_accAdd_b, f_accLow_b, f_accHigh_b, a_left_b, a_right_b, a_up_b, a_count_b, a_kind_b, a_amount_b, a_isVoid_b, a_turnBelow_b, a_voidBelow_b, a_live_b, a_netAll_b, a_netLive_b, a_add_b, a_low_b, a_high_b, a_spare_b, a_copyKind_b, a_copyAmount_b, a_copyVoid_b) := rfl
theorem ls_g2X {j : Nat} : (ls_nv (f_spares_a, f_root_a, f_entries_a, f_cap_a, f_room_a, f_accAdd_a, f_accLow_a, f_accHigh_a, a_left_a, a_right_a, a_up_a, a_count, a_kind_a, a_amount_a, a_isVoid_a, a_turnBelow_a, a_voidBelow_a, a_live, a_netAll, a_netLive, a_add, a_low, a_high, a_spare_a, a_copyKind_a, a_copyAmount_a, a_copyVoid_a) j).2 = (ls_nv (f_spares_b, f_root_b, f_entries_b, f_cap_b, f_room_b, f_accAdd_b, f_accLow_b, f_accHigh_b, a_left_b, a_right_b, a_up_b, a_count, a_kind_b, a_amount_b, a_isVoid_b, a_turnBelow_b, a_voidBelow_b, a_live, a_netAll, a_netLive, a_add, a_low, a_high, a_spare_b, a_copyKind_b, a_copyAmount_b, a_copyVoid_b) j).2 := rfl
theorem ls_g1X {j : Nat} : (ls_nv (f_spares_a, f_root_a, f_entries_a, f_cap_a, f_room_a, f_accAdd_a, f_accLow_a, f_accHigh_a, a_left, a_right, a_up, a_count_a, a_kind, a_amount, a_isVoid, a_turnBelow, a_voidBelow, a_live_a, a_netAll_a, a_netLive_a, a_add_a, a_low_a, a_high_a, a_spare_a, a_copyKind_a, a_copyAmount_a, a_copyVoid_a) j).1 = (ls_nv (f_spares_b, f_root_b, f_entries_b, f_cap_b, f_room_b, f_accAdd_b, f_accLow_b, f_accHigh_b, a_left, a_right, a_up, a_count_b, a_kind, a_amount, a_isVoid, a_turnBelow, a_voidBelow, a_live_b, a_netAll_b, a_netLive_b, a_add_b, a_low_b, a_high_b, a_spare_b, a_copyKind_b, a_copyAmount_b, a_copyVoid_b) j).1 := rfl
theorem ls_cpE : ls_cp (f_spares, f_root, f_entries, f_cap, f_room, f_accAdd, f_accLow, f_accHigh, a_left, a_right, a_up, a_count, a_kind, a_amount, a_isVoid, a_turnBelow, a_voidBelow, a_live, a_netAll, a_netLive, a_add, a_low, a_high, a_spare, a_copyKind, a_copyAmount, a_copyVoid) = f_cap := rfl
end
section
variable {f_spares f_root f_entries f_cap f_room f_accAdd f_accLow f_accHigh : Int32} {a_left a_right a_up a_count a_kind a_amount a_isVoid a_turnBelow a_voidBelow a_live a_netAll a_netLive a_add a_low a_high a_spare a_copyKind a_copyAmount a_copyVoid : Nat → Int32}
theorem ls_pt69 {post : SX → Prop} {n v w i : Nat} {b : Bool} (hi : i < 43) (hw : w < 2) (hvw : v = w + 2)
    (K : wX_paint_69 post (nI i) (ls_b b) f_spares f_root f_entries f_cap f_room f_accAdd f_accLow f_accHigh n (nI (v + 1)) a_left a_right a_up a_count a_kind a_amount a_isVoid a_turnBelow a_voidBelow a_live a_netAll a_netLive (upd a_add (i * 4 + v) (if b then 0 else a_add (i * 4 + w))) (upd a_low (i * 4 + v) (if b then 0 else a_low (i * 4 + w))) (upd a_high (i * 4 + v) (if b then f_cap else a_high (i * 4 + w))) a_spare a_copyKind a_copyAmount a_copyVoid) :
    wX_paint_69 post (nI i) (ls_b b) f_spares f_root f_entries f_cap f_room f_accAdd f_accLow f_accHigh (n + 1) (nI v) a_left a_right a_up a_count a_kind a_amount a_isVoid a_turnBelow a_voidBelow a_live a_netAll a_netLive a_add a_low a_high a_spare a_copyKind a_copyAmount a_copyVoid := by
  have h4 : ¬ (4 : Int32) ≤ nI v := nI_ge (a := v) (b := 4) (by omega) (by omega)
  have c4 : (nI (i * 4 + v)).toNatClampNeg = i * 4 + v := ls_cln (by omega)
  have s2 : nI (i * 4 + v) - 2 = nI (i * 4 + w) := by
    have h := ls_sub (a := i * 4 + v) (b := 2) (by omega)
    rw [show i * 4 + v - 2 = i * 4 + w by omega] at h
    exact h
  have c2 : (nI (i * 4 + v) - 2).toNatClampNeg = i * 4 + w := by rw [s2]; exact ls_cln (by omega)
  have hin : vp_in (nI (i * 4 + v)) 172 := ls_in172 (by omega)
  have hin2 : vp_in (nI (i * 4 + v) - 2) 172 := by rw [s2]; exact ls_in172 (by omega)
  refine br_f h4 (nm_r (e' := nI (i * 4 + v)) (ls_mul4 i v) ?_)
  cases b with
  | false =>
    refine br_t rfl ⟨hin2, ?_⟩
    unfold wX_paint_104
    refine ⟨hin, nm_r (e' := upd a_add (i * 4 + v) (a_add (i * 4 + w))) (by rw [c4, c2]) (br_t rfl ⟨hin2, ?_⟩)⟩
    unfold wX_paint_128
    exact ⟨hin, nm_r (e' := upd a_low (i * 4 + v) (a_low (i * 4 + w))) (by rw [c4, c2]) (br_t rfl ⟨hin2, hin, nm_r (e' := upd a_high (i * 4 + v) (a_high (i * 4 + w))) (by rw [c4, c2]) (nm_r (e' := nI (v + 1)) (nI_1 v) K)⟩)⟩
  | true =>
    refine br_f (by decide) ?_
    unfold wX_paint_104
    refine ⟨hin, nm_r (e' := upd a_add (i * 4 + v) 0) (by rw [c4]) (br_f (by decide) ?_)⟩
    unfold wX_paint_128
    exact ⟨hin, nm_r (e' := upd a_low (i * 4 + v) 0) (by rw [c4]) (br_f (by decide) ⟨hin, nm_r (e' := upd a_high (i * 4 + v) f_cap) (by rw [c4]) (nm_r (e' := nI (v + 1)) (nI_1 v) K)⟩)⟩
theorem ls_paintW {u : SX} {n : Nat} {b : Bool} {q z : Int32} {post : SX → Prop} (hq : q = nI n) (hz : z = ls_b b) (h0 : 0 < n) (hn : n < 43)
    (K : ∀ u' : SX, ls_sc u' = ls_sc u → ls_ro u' = ls_ro u → ls_nv u' n = (ls_pS b (ls_nv u n).1, ls_pG (ls_cp u) b (ls_nv u n).2) → (∀ j, j ≠ n → ls_nv u' j = ls_nv u j) → post u') :
    wpX_paint post u q z := by
  subst hq; subst hz
  obtain ⟨f_spares, f_root, f_entries, f_cap, f_room, f_accAdd, f_accLow, f_accHigh, a_left, a_right, a_up, a_count, a_kind, a_amount, a_isVoid, a_turnBelow, a_voidBelow, a_live, a_netAll, a_netLive, a_add, a_low, a_high, a_spare, a_copyKind, a_copyAmount, a_copyVoid⟩ := u
  have hin := ls_in43 hn
  have c := ls_cln (n := n) (by omega)
  have key : ∀ gg nn : Int32, gg = (if b then 0 else a_count n) → nn = (if b then 0 else a_netAll n) →
      wX_paint_69 post (nI n) (ls_b b) f_spares f_root f_entries f_cap f_room f_accAdd f_accLow f_accHigh 3 2 a_left a_right a_up a_count a_kind a_amount (upd a_isVoid n (ls_b b)) a_turnBelow (upd a_voidBelow n (ls_b b)) (upd a_live n gg) a_netAll (upd a_netLive n nn) a_add a_low a_high a_spare a_copyKind a_copyAmount a_copyVoid := by
    intro gg nn hg hn'
    refine ls_pt69 (n := 2) (v := 2) (w := 0) hn (by omega) rfl (ls_pt69 (n := 1) (v := 3) (w := 1) hn (by omega) rfl ?_)
    refine br_t (nI_le (a := 4) (b := 4) (by omega) (by omega)) (K _ ls_scX ls_roX ?_ fun j hj => ?_)
    · subst hg; subst hn'
      dsimp only [ls_nv, ls_pS, ls_pG, ls_cp]
      simp (disch := omega) only [ls_un, ls_us]
      cases b <;> rfl
    · dsimp only [ls_nv]; simp (disch := omega) only [ls_un]
  unfold wpX_paint
  refine br_f (nI_ne0 h0 (by omega)) ⟨hin, nm_r (e' := upd a_isVoid n (ls_b b)) (by rw [c, ls_narb]) ?_⟩
  cases b with
  | false =>
    refine br_t rfl ?_
    unfold wX_paint_26
    refine ⟨hin, nm_r (e' := upd a_voidBelow n (ls_b false)) (by rw [c]; rfl) (br_t rfl ⟨hin, ?_⟩)⟩
    unfold wX_paint_46
    exact ⟨hin, nm_r (e' := upd a_live n (a_count n)) (by rw [c]) (br_t rfl ⟨hin, hin, nm_r (e' := upd a_netLive n (a_netAll n)) (by rw [c]) ⟨3, key _ _ rfl rfl⟩⟩)⟩
  | true =>
    refine br_f (by decide) ?_
    unfold wX_paint_26
    refine ⟨hin, nm_r (e' := upd a_voidBelow n (ls_b true)) (by rw [c]; rfl) (br_f (by decide) ?_)⟩
    unfold wX_paint_46
    exact ⟨hin, nm_r (e' := upd a_live n 0) (by rw [c]) (br_f (by decide) ⟨hin, nm_r (e' := upd a_netLive n 0) (by rw [c]) ⟨3, key _ _ rfl rfl⟩⟩)⟩
theorem ls_swap {post : SX → Prop} {q : Int32} {k : Nat} (hq : q = nI k) (hk : k + 1 < 172)
    (K : post (f_spares, f_root, f_entries, f_cap, f_room, f_accAdd, f_accLow, f_accHigh, a_left, a_right, a_up, a_count, a_kind, a_amount, a_isVoid, a_turnBelow, a_voidBelow, a_live, a_netAll, a_netLive, upd (upd a_add k (a_add (k + 1))) (k + 1) (a_add k), upd (upd a_low k (a_low (k + 1))) (k + 1) (a_low k), upd (upd a_high k (a_high (k + 1))) (k + 1) (a_high k), a_spare, a_copyKind, a_copyAmount, a_copyVoid)) :
    wpX_swapEffects post (f_spares, f_root, f_entries, f_cap, f_room, f_accAdd, f_accLow, f_accHigh, a_left, a_right, a_up, a_count, a_kind, a_amount, a_isVoid, a_turnBelow, a_voidBelow, a_live, a_netAll, a_netLive, a_add, a_low, a_high, a_spare, a_copyKind, a_copyAmount, a_copyVoid) q := by
  subst hq
  have hin : vp_in (nI k) 172 := ls_in172 (by omega)
  have hin1 : vp_in (nI k + 1) 172 := by rw [nI_1]; exact ls_in172 hk
  have c : (nI k).toNatClampNeg = k := ls_cln (by omega)
  have c1 : (nI k + 1).toNatClampNeg = k + 1 := by rw [nI_1]; exact ls_cln (by omega)
  unfold wpX_swapEffects
  exact ⟨hin, nm_r (e' := a_add k) (by rw [c]) ⟨hin, nm_r (e' := a_low k) (by rw [c]) ⟨hin, nm_r (e' := a_high k) (by rw [c])
    ⟨hin1, hin, nm_r (e' := upd a_add k (a_add (k + 1))) (by rw [c, c1]) ⟨hin1, hin, nm_r (e' := upd a_low k (a_low (k + 1))) (by rw [c, c1]) ⟨hin1, hin, nm_r (e' := upd a_high k (a_high (k + 1))) (by rw [c, c1])
    ⟨hin1, nm_r (e' := upd (upd a_add k (a_add (k + 1))) (k + 1) (a_add k)) (by rw [c1]) ⟨hin1, nm_r (e' := upd (upd a_low k (a_low (k + 1))) (k + 1) (a_low k)) (by rw [c1])
    ⟨hin1, nm_r (e' := upd (upd a_high k (a_high (k + 1))) (k + 1) (a_high k)) (by rw [c1]) K⟩⟩⟩⟩⟩⟩⟩⟩⟩
theorem ls_turnW {u : SX} {n : Nat} {q : Int32} {post : SX → Prop} (hq : q = nI n) (h0 : 0 < n) (hn : n < 43)
    (K : ∀ u' : SX, ls_sc u' = ls_sc u → ls_ro u' = ls_ro u → ls_nv u' n = (ls_tS (ls_nv u n).1, ls_tG (ls_nv u n).2) → (∀ j, j ≠ n → ls_nv u' j = ls_nv u j) → post u') :
    wpX_turn post u q := by
  subst hq
  obtain ⟨f_spares, f_root, f_entries, f_cap, f_room, f_accAdd, f_accLow, f_accHigh, a_left, a_right, a_up, a_count, a_kind, a_amount, a_isVoid, a_turnBelow, a_voidBelow, a_live, a_netAll, a_netLive, a_add, a_low, a_high, a_spare, a_copyKind, a_copyAmount, a_copyVoid⟩ := u
  have hin := ls_in43 hn
  have c := ls_cln (n := n) (by omega)
  have m0 : nI n * 4 = nI (n * 4 + 0) := (Int32.ofNat_mul n 4).symm
  have m2 : nI n * 4 + 2 = nI (n * 4 + 2) := ls_mul4 n 2
  unfold wpX_turn
  refine br_f (nI_ne0 h0 (by omega)) ⟨hin, nm_r (e' := a_left n) (by rw [c]) ⟨hin, hin, nm_r (e' := upd a_left n (a_right n)) (by rw [c]) ⟨hin, nm_r (e' := upd a_right n (a_left n)) (by rw [c]) ?_⟩⟩⟩
  refine ls_swap m0 (by omega) ?_
  refine ls_swap m2 (by omega) ?_
  refine And.intro hin (br_c (fun h => And.intro hin (nm_r (e' := upd a_turnBelow n 1) (by rw [c]; rfl) (K _ ls_scX ls_roX ?_ fun j hj => ?_))) (fun h => And.intro hin (nm_r (e' := upd a_turnBelow n 0) (by rw [c]; rfl) (K _ ls_scX ls_roX ?_ fun j hj => ?_))))
  · rw [c] at h
    dsimp only [ls_nv, ls_tS, ls_tG]
    rw [if_pos h]
    simp (disch := omega) only [ls_un, ls_us]
  · dsimp only [ls_nv]; simp (disch := omega) only [ls_un]
  · rw [c] at h
    dsimp only [ls_nv, ls_tS, ls_tG]
    rw [if_neg h]
    simp (disch := omega) only [ls_un, ls_us]
  · dsimp only [ls_nv]; simp (disch := omega) only [ls_un]
theorem ls_paintT {u : SX} {cap n p : Nat} {b : Bool} {S : List ls_It} {q z : Int32} {post : SX → Prop} (hq : q = nI n) (hz : z = ls_b b) (hc : cap ≤ 60) (hcap : ls_cp u = nI cap)
    (hT : ls_T cap (ls_nv u) n p S) (hu : ls_u1 S)
    (K : ∀ u' : SX, ls_sc u' = ls_sc u → ls_ro u' = ls_ro u → ls_T cap (ls_nv u') n p (S.map (ls_sv b)) → (∀ j, ls_ct j S = 0 → ls_nv u' j = ls_nv u j) → post u') :
    wpX_paint post u q z := by
  by_cases h : n = 0
  · subst h
    have e := ls_T_0 hT
    subst e
    have := K u rfl rfl (ls_T_nil p) (fun _ _ => rfl)
    obtain ⟨f_spares, f_root, f_entries, f_cap, f_room, f_accAdd, f_accLow, f_accHigh, a_left, a_right, a_up, a_count, a_kind, a_amount, a_isVoid, a_turnBelow, a_voidBelow, a_live, a_netAll, a_netLive, a_add, a_low, a_high, a_spare, a_copyKind, a_copyAmount, a_copyVoid⟩ := u
    unfold wpX_paint
    exact br_t (hq.trans nI_0) this
  · refine ls_paintW hq hz (by omega) (ls_T_lt hT) fun u' h1 h2 h3 h4 => K u' h1 h2 (ls_T_paint hc hT hu (fun j _ hj => h4 j hj) fun _ => ?_) fun j hj => h4 j ?_
    · rw [h3, hcap]
    · intro e; rw [e] at hj; have := ls_T_self hT h; omega
theorem ls_turnT {u : SX} {cap n p : Nat} {S : List ls_It} {q : Int32} {post : SX → Prop} (hq : q = nI n)
    (hT : ls_T cap (ls_nv u) n p S) (hu : ls_u1 S)
    (K : ∀ u' : SX, ls_sc u' = ls_sc u → ls_ro u' = ls_ro u → ls_T cap (ls_nv u') n p S.reverse → (∀ j, ls_ct j S = 0 → ls_nv u' j = ls_nv u j) → post u') :
    wpX_turn post u q := by
  by_cases h : n = 0
  · subst h
    have e := ls_T_0 hT
    subst e
    have := K u rfl rfl (ls_T_nil p) (fun _ _ => rfl)
    obtain ⟨f_spares, f_root, f_entries, f_cap, f_room, f_accAdd, f_accLow, f_accHigh, a_left, a_right, a_up, a_count, a_kind, a_amount, a_isVoid, a_turnBelow, a_voidBelow, a_live, a_netAll, a_netLive, a_add, a_low, a_high, a_spare, a_copyKind, a_copyAmount, a_copyVoid⟩ := u
    unfold wpX_turn
    exact br_t (hq.trans nI_0) this
  · refine ls_turnW hq (by omega) (ls_T_lt hT) fun u' h1 h2 h3 h4 => K u' h1 h2 (ls_T_turn hT hu (fun j _ hj => h4 j hj) fun _ => h3) fun j hj => h4 j ?_
    intro e; rw [e] at hj; have := ls_T_self hT h; omega
end
end
section
section
variable {f_spares f_root f_entries f_cap f_room f_accAdd f_accLow f_accHigh : Int32} {a_left a_right a_up a_count a_kind a_amount a_isVoid a_turnBelow a_voidBelow a_live a_netAll a_netLive a_add a_low a_high a_spare a_copyKind a_copyAmount a_copyVoid : Nat → Int32}
/-- the flags cleared -/
def ls_cT (s : ls_St) : ls_St := (s.1, s.2.1, s.2.2.1, s.2.2.2.1, s.2.2.2.2.1, s.2.2.2.2.2.1, 0, s.2.2.2.2.2.2.2)
def ls_cV (s : ls_St) : ls_St := (s.1, s.2.1, s.2.2.1, s.2.2.2.1, s.2.2.2.2.1, s.2.2.2.2.2.1, s.2.2.2.2.2.2.1, 2)
theorem ls_u1_sub {S A : List ls_It} (h : ls_u1 S) (hs : ∀ j, ls_ct j A ≤ ls_ct j S) : ls_u1 A := fun j => Nat.le_trans (hs j) (h j)
theorem ls_push55 {cap i p l r : Nat} {A B : List ls_It} {x : ls_It} {t : Bool} {post : SX → Prop} (hi0 : 0 < i) (hi : i < 43) (hx : x.1 = i) (ox : ls_ok cap x)
    (h5 : (ls_nv (f_spares, f_root, f_entries, f_cap, f_room, f_accAdd, f_accLow, f_accHigh, a_left, a_right, a_up, a_count, a_kind, a_amount, a_isVoid, a_turnBelow, a_voidBelow, a_live, a_netAll, a_netLive, a_add, a_low, a_high, a_spare, a_copyKind, a_copyAmount, a_copyVoid) i).1 = ls_st l r p x t none) (hl : ls_T cap (ls_nv (f_spares, f_root, f_entries, f_cap, f_room, f_accAdd, f_accLow, f_accHigh, a_left, a_right, a_up, a_count, a_kind, a_amount, a_isVoid, a_turnBelow, a_voidBelow, a_live, a_netAll, a_netLive, a_add, a_low, a_high, a_spare, a_copyKind, a_copyAmount, a_copyVoid)) l i A) (hr : ls_T cap (ls_nv (f_spares, f_root, f_entries, f_cap, f_room, f_accAdd, f_accLow, f_accHigh, a_left, a_right, a_up, a_count, a_kind, a_amount, a_isVoid, a_turnBelow, a_voidBelow, a_live, a_netAll, a_netLive, a_add, a_low, a_high, a_spare, a_copyKind, a_copyAmount, a_copyVoid)) r i B)
    (hAg : ls_Ag cap (ls_nv (f_spares, f_root, f_entries, f_cap, f_room, f_accAdd, f_accLow, f_accHigh, a_left, a_right, a_up, a_count, a_kind, a_amount, a_isVoid, a_turnBelow, a_voidBelow, a_live, a_netAll, a_netLive, a_add, a_low, a_high, a_spare, a_copyKind, a_copyAmount, a_copyVoid) i).2 (ls_tn t A ++ x :: ls_tn t B)) (hu : ls_u1 (A ++ x :: B))
    (K : ∀ (u' : SX) (l r : Nat), ls_sc u' = ls_sc (f_spares, f_root, f_entries, f_cap, f_room, f_accAdd, f_accLow, f_accHigh, a_left, a_right, a_up, a_count, a_kind, a_amount, a_isVoid, a_turnBelow, a_voidBelow, a_live, a_netAll, a_netLive, a_add, a_low, a_high, a_spare, a_copyKind, a_copyAmount, a_copyVoid) → ls_ro u' = ls_ro (f_spares, f_root, f_entries, f_cap, f_room, f_accAdd, f_accLow, f_accHigh, a_left, a_right, a_up, a_count, a_kind, a_amount, a_isVoid, a_turnBelow, a_voidBelow, a_live, a_netAll, a_netLive, a_add, a_low, a_high, a_spare, a_copyKind, a_copyAmount, a_copyVoid) → ls_On cap (ls_nv u') i p l r (ls_tn t A) x (ls_tn t B) → (∀ j, ls_ct j (A ++ x :: B) = 0 → ls_nv u' j = ls_nv (f_spares, f_root, f_entries, f_cap, f_room, f_accAdd, f_accLow, f_accHigh, a_left, a_right, a_up, a_count, a_kind, a_amount, a_isVoid, a_turnBelow, a_voidBelow, a_live, a_netAll, a_netLive, a_add, a_low, a_high, a_spare, a_copyKind, a_copyAmount, a_copyVoid) j) → post u') :
    wX_push_55 post (nI i) f_spares f_root f_entries f_cap f_room f_accAdd f_accLow f_accHigh a_left a_right a_up a_count a_kind a_amount a_isVoid a_turnBelow a_voidBelow a_live a_netAll a_netLive a_add a_low a_high a_spare a_copyKind a_copyAmount a_copyVoid := by
  have hin := ls_in43 hi
  have c := ls_cln (n := i) (by omega)
  have e1 : a_left i = nI l := congrArg (fun z => z.1) h5
  have e2 : a_right i = nI r := congrArg (fun z => z.2.1) h5
  have e7 : a_turnBelow i = ls_b t := congrArg (fun z => z.2.2.2.2.2.2.1) h5
  have ui := hu i
  rw [ls_ct_app, ls_ct_self hx] at ui
  have uA : ls_u1 A := ls_u1_sub hu fun j => by rw [ls_ct_app]; omega
  have uB : ls_u1 B := ls_u1_sub hu fun j => by rw [ls_ct_app, ls_ct_cons]; omega
  unfold wX_push_55
  cases t with
  | false =>
    refine ⟨hin, br_t (by rw [c]; exact e7) (K _ l r rfl rfl ⟨hi0, hi, hx, ox, h5, hl, hr, hAg⟩ fun _ _ => rfl)⟩
  | true =>
    refine ⟨hin, br_f (by rw [c, e7]; decide) ⟨hin, ls_turnT (n := l) (p := i) (S := A) (by rw [c]; exact e1) hl uA fun u1 s1 r1 T1 F1 => ?_⟩⟩
    have n1 := F1 i (by omega)
    have r1B : ls_T cap (ls_nv u1) r i B := ls_T_fr hr fun j hj => F1 j (by have := hu j; rw [ls_ct_app, ls_ct_cons] at this; omega)
    obtain ⟨f_spares_1, f_root_1, f_entries_1, f_cap_1, f_room_1, f_accAdd_1, f_accLow_1, f_accHigh_1, a_left_1, a_right_1, a_up_1, a_count_1, a_kind_1, a_amount_1, a_isVoid_1, a_turnBelow_1, a_voidBelow_1, a_live_1, a_netAll_1, a_netLive_1, a_add_1, a_low_1, a_high_1, a_spare_1, a_copyKind_1, a_copyAmount_1, a_copyVoid_1⟩ := u1
    have e2' : a_right_1 i = nI r := (congrArg (fun z => z.1.2.1) n1).trans e2
    refine And.intro hin (ls_turnT (n := r) (p := i) (S := B) (by rw [c]; exact e2') r1B uB fun u2 s2 r2 T2 F2 => ?_)
    have n2 := (F2 i (by omega)).trans n1
    have l2A : ls_T cap (ls_nv u2) l i A.reverse := ls_T_fr T1 fun j hj => F2 j (by rw [ls_ct_rev] at hj; have := hu j; rw [ls_ct_app, ls_ct_cons] at this; omega)
    have F3 : ∀ j, ls_ct j (A ++ x :: B) = 0 → ls_nv u2 j = ls_nv (f_spares, f_root, f_entries, f_cap, f_room, f_accAdd, f_accLow, f_accHigh, a_left, a_right, a_up, a_count, a_kind, a_amount, a_isVoid, a_turnBelow, a_voidBelow, a_live, a_netAll, a_netLive, a_add, a_low, a_high, a_spare, a_copyKind, a_copyAmount, a_copyVoid) j := by
      intro j hj
      rw [ls_ct_app, ls_ct_cons] at hj
      exact (F2 j (by omega)).trans (F1 j (by omega))
    have s3 := s2.trans s1
    have r3 := r2.trans r1
    obtain ⟨f_spares_2, f_root_2, f_entries_2, f_cap_2, f_room_2, f_accAdd_2, f_accLow_2, f_accHigh_2, a_left_2, a_right_2, a_up_2, a_count_2, a_kind_2, a_amount_2, a_isVoid_2, a_turnBelow_2, a_voidBelow_2, a_live_2, a_netAll_2, a_netLive_2, a_add_2, a_low_2, a_high_2, a_spare_2, a_copyKind_2, a_copyAmount_2, a_copyVoid_2⟩ := u2
    refine And.intro hin (nm_r (e' := upd a_turnBelow_2 i 0) (by rw [c]; rfl) (K _ l r (Eq.trans ls_scX s3) (Eq.trans ls_roX r3) ⟨hi0, hi, hx, ox, ?_, ?_, ?_, ?_⟩ fun j hj => ?_))
    · have : (ls_nv (f_spares_2, f_root_2, f_entries_2, f_cap_2, f_room_2, f_accAdd_2, f_accLow_2, f_accHigh_2, a_left_2, a_right_2, a_up_2, a_count_2, a_kind_2, a_amount_2, a_isVoid_2, upd a_turnBelow_2 i 0, a_voidBelow_2, a_live_2, a_netAll_2, a_netLive_2, a_add_2, a_low_2, a_high_2, a_spare_2, a_copyKind_2, a_copyAmount_2, a_copyVoid_2) i).1 = ls_cT (ls_nv (f_spares_2, f_root_2, f_entries_2, f_cap_2, f_room_2, f_accAdd_2, f_accLow_2, f_accHigh_2, a_left_2, a_right_2, a_up_2, a_count_2, a_kind_2, a_amount_2, a_isVoid_2, a_turnBelow_2, a_voidBelow_2, a_live_2, a_netAll_2, a_netLive_2, a_add_2, a_low_2, a_high_2, a_spare_2, a_copyKind_2, a_copyAmount_2, a_copyVoid_2) i).1 := by
        dsimp only [ls_nv, ls_cT]; rw [ls_us']
      rw [this, n2, h5]; rfl
    · refine ls_T_fr l2A fun j hj => ?_
      have : j ≠ i := by intro e; rw [e, ls_ct_tn] at hj; omega
      dsimp only [ls_nv]; rw [ls_un this]
    · refine ls_T_fr T2 fun j hj => ?_
      have : j ≠ i := by intro e; rw [e, ls_ct_tn] at hj; omega
      dsimp only [ls_nv]; rw [ls_un this]
    · have : (ls_nv (f_spares_2, f_root_2, f_entries_2, f_cap_2, f_room_2, f_accAdd_2, f_accLow_2, f_accHigh_2, a_left_2, a_right_2, a_up_2, a_count_2, a_kind_2, a_amount_2, a_isVoid_2, upd a_turnBelow_2 i 0, a_voidBelow_2, a_live_2, a_netAll_2, a_netLive_2, a_add_2, a_low_2, a_high_2, a_spare_2, a_copyKind_2, a_copyAmount_2, a_copyVoid_2) i).2 = (ls_nv (f_spares_2, f_root_2, f_entries_2, f_cap_2, f_room_2, f_accAdd_2, f_accLow_2, f_accHigh_2, a_left_2, a_right_2, a_up_2, a_count_2, a_kind_2, a_amount_2, a_isVoid_2, a_turnBelow_2, a_voidBelow_2, a_live_2, a_netAll_2, a_netLive_2, a_add_2, a_low_2, a_high_2, a_spare_2, a_copyKind_2, a_copyAmount_2, a_copyVoid_2) i).2 := ls_g2X
      rw [this, n2]; exact hAg
    · refine Eq.trans ?_ (F3 j hj)
      have : j ≠ i := by intro e; rw [e, ls_ct_app, ls_ct_self hx] at hj; omega
      dsimp only [ls_nv]; rw [ls_un this]
theorem ls_push25 {cap i p l r : Nat} {A B : List ls_It} {x : ls_It} {t b : Bool} {z : Int32} {post : SX → Prop} (hz : z = ls_b b) (hc : cap ≤ 60) (hcap : ls_cp (f_spares, f_root, f_entries, f_cap, f_room, f_accAdd, f_accLow, f_accHigh, a_left, a_right, a_up, a_count, a_kind, a_amount, a_isVoid, a_turnBelow, a_voidBelow, a_live, a_netAll, a_netLive, a_add, a_low, a_high, a_spare, a_copyKind, a_copyAmount, a_copyVoid) = nI cap) (hi0 : 0 < i) (hi : i < 43) (hx : x.1 = i) (ox : ls_ok cap x)
    (h5 : (ls_nv (f_spares, f_root, f_entries, f_cap, f_room, f_accAdd, f_accLow, f_accHigh, a_left, a_right, a_up, a_count, a_kind, a_amount, a_isVoid, a_turnBelow, a_voidBelow, a_live, a_netAll, a_netLive, a_add, a_low, a_high, a_spare, a_copyKind, a_copyAmount, a_copyVoid) i).1 = ls_st l r p x t (some b)) (hl : ls_T cap (ls_nv (f_spares, f_root, f_entries, f_cap, f_room, f_accAdd, f_accLow, f_accHigh, a_left, a_right, a_up, a_count, a_kind, a_amount, a_isVoid, a_turnBelow, a_voidBelow, a_live, a_netAll, a_netLive, a_add, a_low, a_high, a_spare, a_copyKind, a_copyAmount, a_copyVoid)) l i A) (hr : ls_T cap (ls_nv (f_spares, f_root, f_entries, f_cap, f_room, f_accAdd, f_accLow, f_accHigh, a_left, a_right, a_up, a_count, a_kind, a_amount, a_isVoid, a_turnBelow, a_voidBelow, a_live, a_netAll, a_netLive, a_add, a_low, a_high, a_spare, a_copyKind, a_copyAmount, a_copyVoid)) r i B)
    (hAg : ls_Ag cap (ls_nv (f_spares, f_root, f_entries, f_cap, f_room, f_accAdd, f_accLow, f_accHigh, a_left, a_right, a_up, a_count, a_kind, a_amount, a_isVoid, a_turnBelow, a_voidBelow, a_live, a_netAll, a_netLive, a_add, a_low, a_high, a_spare, a_copyKind, a_copyAmount, a_copyVoid) i).2 (ls_tn t (A.map (ls_sv b)) ++ x :: ls_tn t (B.map (ls_sv b)))) (hu : ls_u1 (A ++ x :: B))
    (K : ∀ (u' : SX) (l r : Nat), ls_sc u' = ls_sc (f_spares, f_root, f_entries, f_cap, f_room, f_accAdd, f_accLow, f_accHigh, a_left, a_right, a_up, a_count, a_kind, a_amount, a_isVoid, a_turnBelow, a_voidBelow, a_live, a_netAll, a_netLive, a_add, a_low, a_high, a_spare, a_copyKind, a_copyAmount, a_copyVoid) → ls_ro u' = ls_ro (f_spares, f_root, f_entries, f_cap, f_room, f_accAdd, f_accLow, f_accHigh, a_left, a_right, a_up, a_count, a_kind, a_amount, a_isVoid, a_turnBelow, a_voidBelow, a_live, a_netAll, a_netLive, a_add, a_low, a_high, a_spare, a_copyKind, a_copyAmount, a_copyVoid) → ls_On cap (ls_nv u') i p l r (ls_tn t (A.map (ls_sv b))) x (ls_tn t (B.map (ls_sv b))) → (∀ j, ls_ct j (A ++ x :: B) = 0 → ls_nv u' j = ls_nv (f_spares, f_root, f_entries, f_cap, f_room, f_accAdd, f_accLow, f_accHigh, a_left, a_right, a_up, a_count, a_kind, a_amount, a_isVoid, a_turnBelow, a_voidBelow, a_live, a_netAll, a_netLive, a_add, a_low, a_high, a_spare, a_copyKind, a_copyAmount, a_copyVoid) j) → post u') :
    wX_push_25 post (nI i) z f_spares f_root f_entries f_cap f_room f_accAdd f_accLow f_accHigh a_left a_right a_up a_count a_kind a_amount a_isVoid a_turnBelow a_voidBelow a_live a_netAll a_netLive a_add a_low a_high a_spare a_copyKind a_copyAmount a_copyVoid := by
  have hin := ls_in43 hi
  have c := ls_cln (n := i) (by omega)
  have e1 : a_left i = nI l := congrArg (fun z => z.1) h5
  have e2 : a_right i = nI r := congrArg (fun z => z.2.1) h5
  have ui := hu i
  rw [ls_ct_app, ls_ct_self hx] at ui
  have uA : ls_u1 A := ls_u1_sub hu fun j => by rw [ls_ct_app]; omega
  have uB : ls_u1 B := ls_u1_sub hu fun j => by rw [ls_ct_app, ls_ct_cons]; omega
  unfold wX_push_25
  refine ⟨hin, ls_paintT (n := l) (p := i) (S := A) (by rw [c]; exact e1) hz hc hcap hl uA fun u1 s1 r1 T1 F1 => ?_⟩
  have n1 := F1 i (by omega)
  have r1B : ls_T cap (ls_nv u1) r i B := ls_T_fr hr fun j hj => F1 j (by have := hu j; rw [ls_ct_app, ls_ct_cons] at this; omega)
  have hcap1 : ls_cp u1 = nI cap := (ls_cp_sc s1).trans hcap
  obtain ⟨f_spares_1, f_root_1, f_entries_1, f_cap_1, f_room_1, f_accAdd_1, f_accLow_1, f_accHigh_1, a_left_1, a_right_1, a_up_1, a_count_1, a_kind_1, a_amount_1, a_isVoid_1, a_turnBelow_1, a_voidBelow_1, a_live_1, a_netAll_1, a_netLive_1, a_add_1, a_low_1, a_high_1, a_spare_1, a_copyKind_1, a_copyAmount_1, a_copyVoid_1⟩ := u1
  have e2' : a_right_1 i = nI r := (congrArg (fun z => z.1.2.1) n1).trans e2
  refine And.intro hin (ls_paintT (n := r) (p := i) (S := B) (by rw [c]; exact e2') hz hc hcap1 r1B uB fun u2 s2 r2 T2 F2 => ?_)
  have n2 := (F2 i (by omega)).trans n1
  have l2A : ls_T cap (ls_nv u2) l i (A.map (ls_sv b)) := ls_T_fr T1 fun j hj => F2 j (by rw [ls_ct_sv] at hj; have := hu j; rw [ls_ct_app, ls_ct_cons] at this; omega)
  have F3 : ∀ j, ls_ct j (A ++ x :: B) = 0 → ls_nv u2 j = ls_nv (f_spares, f_root, f_entries, f_cap, f_room, f_accAdd, f_accLow, f_accHigh, a_left, a_right, a_up, a_count, a_kind, a_amount, a_isVoid, a_turnBelow, a_voidBelow, a_live, a_netAll, a_netLive, a_add, a_low, a_high, a_spare, a_copyKind, a_copyAmount, a_copyVoid) j := by
    intro j hj
    rw [ls_ct_app, ls_ct_cons] at hj
    exact (F2 j (by omega)).trans (F1 j (by omega))
  have s3 := s2.trans s1
  have r3 := r2.trans r1
  obtain ⟨f_spares_2, f_root_2, f_entries_2, f_cap_2, f_room_2, f_accAdd_2, f_accLow_2, f_accHigh_2, a_left_2, a_right_2, a_up_2, a_count_2, a_kind_2, a_amount_2, a_isVoid_2, a_turnBelow_2, a_voidBelow_2, a_live_2, a_netAll_2, a_netLive_2, a_add_2, a_low_2, a_high_2, a_spare_2, a_copyKind_2, a_copyAmount_2, a_copyVoid_2⟩ := u2
  refine And.intro hin (nm_r (e' := upd a_voidBelow_2 i 2) (by rw [c]) (ls_push55 (l := l) (r := r) (p := p) (A := A.map (ls_sv b)) (B := B.map (ls_sv b)) (x := x) (t := t) hi0 hi hx ox ?_ ?_ ?_ ?_ ?_ fun u' l' r' s4 r4 O4 F4 => K u' l' r' (s4.trans (Eq.trans ls_scX s3)) (r4.trans (Eq.trans ls_roX r3)) O4 fun j hj => ?_))
  · have : (ls_nv (f_spares_2, f_root_2, f_entries_2, f_cap_2, f_room_2, f_accAdd_2, f_accLow_2, f_accHigh_2, a_left_2, a_right_2, a_up_2, a_count_2, a_kind_2, a_amount_2, a_isVoid_2, a_turnBelow_2, upd a_voidBelow_2 i 2, a_live_2, a_netAll_2, a_netLive_2, a_add_2, a_low_2, a_high_2, a_spare_2, a_copyKind_2, a_copyAmount_2, a_copyVoid_2) i).1 = ls_cV (ls_nv (f_spares_2, f_root_2, f_entries_2, f_cap_2, f_room_2, f_accAdd_2, f_accLow_2, f_accHigh_2, a_left_2, a_right_2, a_up_2, a_count_2, a_kind_2, a_amount_2, a_isVoid_2, a_turnBelow_2, a_voidBelow_2, a_live_2, a_netAll_2, a_netLive_2, a_add_2, a_low_2, a_high_2, a_spare_2, a_copyKind_2, a_copyAmount_2, a_copyVoid_2) i).1 := by
      dsimp only [ls_nv, ls_cV]; rw [ls_us']
    rw [this, n2, h5]; rfl
  · refine ls_T_fr l2A fun j hj => ?_
    have : j ≠ i := by intro e; rw [e, ls_ct_sv] at hj; omega
    dsimp only [ls_nv]; rw [ls_un this]
  · refine ls_T_fr T2 fun j hj => ?_
    have : j ≠ i := by intro e; rw [e, ls_ct_sv] at hj; omega
    dsimp only [ls_nv]; rw [ls_un this]
  · have : (ls_nv (f_spares_2, f_root_2, f_entries_2, f_cap_2, f_room_2, f_accAdd_2, f_accLow_2, f_accHigh_2, a_left_2, a_right_2, a_up_2, a_count_2, a_kind_2, a_amount_2, a_isVoid_2, a_turnBelow_2, upd a_voidBelow_2 i 2, a_live_2, a_netAll_2, a_netLive_2, a_add_2, a_low_2, a_high_2, a_spare_2, a_copyKind_2, a_copyAmount_2, a_copyVoid_2) i).2 = (ls_nv (f_spares_2, f_root_2, f_entries_2, f_cap_2, f_room_2, f_accAdd_2, f_accLow_2, f_accHigh_2, a_left_2, a_right_2, a_up_2, a_count_2, a_kind_2, a_amount_2, a_isVoid_2, a_turnBelow_2, a_voidBelow_2, a_live_2, a_netAll_2, a_netLive_2, a_add_2, a_low_2, a_high_2, a_spare_2, a_copyKind_2, a_copyAmount_2, a_copyVoid_2) i).2 := ls_g2X
    rw [this, n2]; exact hAg
  · refine ls_u1_sub hu fun j => ?_
    rw [ls_ct_app, ls_ct_cons, ls_ct_app, ls_ct_cons, ls_ct_sv, ls_ct_sv]; omega
  · have z : ls_ct j (A.map (ls_sv b) ++ x :: B.map (ls_sv b)) = 0 := by
      rw [ls_ct_app, ls_ct_cons] at hj ⊢; rw [ls_ct_sv, ls_ct_sv]; exact hj
    refine (F4 j z).trans (Eq.trans ?_ (F3 j hj))
    have : j ≠ i := by intro e; rw [e, ls_ct_app, ls_ct_self hx] at hj; omega
    dsimp only [ls_nv]; rw [ls_un this]
theorem ls_push {u : SX} {cap i p : Nat} {S : List ls_It} {q : Int32} {post : SX → Prop} (hq : q = nI i) (hc : cap ≤ 60) (hcap : ls_cp u = nI cap) (hi : i ≠ 0)
    (hT : ls_T cap (ls_nv u) i p S) (hu : ls_u1 S)
    (K : ∀ (u' : SX) (l r : Nat) (A : List ls_It) (x : ls_It) (B : List ls_It), ls_sc u' = ls_sc u → ls_ro u' = ls_ro u → ls_On cap (ls_nv u') i p l r A x B → S = A ++ x :: B → (∀ j, ls_ct j S = 0 → ls_nv u' j = ls_nv u j) → post u') :
    wpX_push post u q := by
  subst hq
  rcases ls_T_inv hT with ⟨h1, _⟩ | ⟨l, r, A, B, x, t, w, h1, h2, h3, h4, h5, h6, h7, h8, h9⟩
  · exact absurd h1 hi
  have hct : ∀ j, ls_ct j S = ls_ct j (A ++ x :: B) := by
    intro j; rw [h8, ls_ct_app, ls_ct_app, ls_ct_cons, ls_ct_cons, ls_ct_lz, ls_ct_lz]
  have hu' : ls_u1 (A ++ x :: B) := fun j => by rw [← hct]; exact hu j
  have hin := ls_in43 h2
  have c := ls_cln (n := i) (by omega)
  obtain ⟨f_spares, f_root, f_entries, f_cap, f_room, f_accAdd, f_accLow, f_accHigh, a_left, a_right, a_up, a_count, a_kind, a_amount, a_isVoid, a_turnBelow, a_voidBelow, a_live, a_netAll, a_netLive, a_add, a_low, a_high, a_spare, a_copyKind, a_copyAmount, a_copyVoid⟩ := u
  have e8 : a_voidBelow i = ls_w3 w := congrArg (fun z => z.2.2.2.2.2.2.2) h5
  unfold wpX_push
  cases w with
  | none =>
    refine ⟨hin, br_t (by rw [c]; exact e8) (ls_push55 (l := l) (r := r) (p := p) (A := A) (B := B) (x := x) (t := t) h1 h2 h3 h4 h5 h6 h7 (by rw [h8] at h9; exact h9) hu' fun u' l' r' s4 r4 O4 F4 => K u' l' r' _ x _ s4 r4 O4 h8 fun j hj => F4 j ?_)⟩
    rw [← hct]; exact hj
  | some b =>
    cases b with
    | false =>
      refine ⟨hin, br_f (by rw [c, e8]; decide) ⟨hin, br_f (by rw [c, e8]; decide) (ls_push25 (l := l) (r := r) (p := p) (A := A) (B := B) (x := x) (t := t) (b := false) rfl hc hcap h1 h2 h3 h4 h5 h6 h7 (by rw [h8] at h9; exact h9) hu' fun u' l' r' s4 r4 O4 F4 => K u' l' r' _ x _ s4 r4 O4 h8 fun j hj => F4 j ?_)⟩⟩
      rw [← hct]; exact hj
    | true =>
      refine ⟨hin, br_f (by rw [c, e8]; decide) ⟨hin, br_t (by rw [c, e8]; rfl) (ls_push25 (l := l) (r := r) (p := p) (A := A) (B := B) (x := x) (t := t) (b := true) rfl hc hcap h1 h2 h3 h4 h5 h6 h7 (by rw [h8] at h9; exact h9) hu' fun u' l' r' s4 r4 O4 F4 => K u' l' r' _ x _ s4 r4 O4 h8 fun j hj => F4 j ?_)⟩⟩
      rw [← hct]; exact hj
end
end
section
/-! seek -/
section
variable {cap : Nat} {g : Nat → ls_ND}
theorem ls_C_l {i l r : Nat} {A B : List ls_It} {x : ls_It} {Z : List ls_Fm} (h : ls_On cap g i (ls_par Z) l r A x B) (hC : ls_C cap g Z i (A ++ x :: B)) : ls_C cap g ((false, x, B) :: Z) l A := by
  obtain ⟨h1, h2, h3, h4, h5, h6, h7, h8⟩ := h
  subst h3
  exact ⟨r, h1, h2, h4, h5, h7, h8, hC⟩
theorem ls_C_r {i l r : Nat} {A B : List ls_It} {x : ls_It} {Z : List ls_Fm} (h : ls_On cap g i (ls_par Z) l r A x B) (hC : ls_C cap g Z i (A ++ x :: B)) : ls_C cap g ((true, x, A) :: Z) r B := by
  obtain ⟨h1, h2, h3, h4, h5, h6, h7, h8⟩ := h
  subst h3
  exact ⟨l, h1, h2, h4, h5, h6, h8, hC⟩
end
def ls_sk (post : Int32 → SX → Prop) (n : Nat) (x2 x3 x4 : Int32) (u : SX) : Prop := match u with
  | (f_spares, f_root, f_entries, f_cap, f_room, f_accAdd, f_accLow, f_accHigh, a_left, a_right, a_up, a_count, a_kind, a_amount, a_isVoid, a_turnBelow, a_voidBelow, a_live, a_netAll, a_netLive, a_add, a_low, a_high, a_spare, a_copyKind, a_copyAmount, a_copyVoid) => wX_seek_10 post n x2 x3 x4 f_spares f_root f_entries f_cap f_room f_accAdd f_accLow f_accHigh a_left a_right a_up a_count a_kind a_amount a_isVoid a_turnBelow a_voidBelow a_live a_netAll a_netLive a_add a_low a_high a_spare a_copyKind a_copyAmount a_copyVoid
theorem ls_sk1 {post : Int32 → SX → Prop} {cap n i rest c : Nat} {u : SX} {Z : List ls_Fm} {S : List ls_It} (hc : cap ≤ 60) (hcap : ls_cp u = nI cap) (hn : c < 43) (h0 : ls_Ag cap (ls_nv u 0).2 [])
    (hT : ls_T cap (ls_nv u) i (ls_par Z) S) (hC : ls_C cap (ls_nv u) Z i S) (hu : ls_u1 (ls_lq Z ++ S ++ ls_rq Z)) (hr : rest < S.length) (hS : S.length ≤ 1000)
    (K : ∀ (u' : SX) (l r : Nat) (A : List ls_It) (x : ls_It) (B : List ls_It), ls_sc u' = ls_sc u → ls_ro u' = ls_ro u → ls_On cap (ls_nv u') i (ls_par Z) l r A x B → S = A ++ x :: B → ls_C cap (ls_nv u') Z i S →
      (∀ j, ls_ct j S = 0 → ls_nv u' j = ls_nv u j) →
      (rest = A.length → post (nI i) u') ∧ (rest < A.length → ls_sk post n (nI l) (nI rest) (nI (c + 1)) u') ∧ (A.length < rest → ls_sk post n (nI r) (nI (rest - A.length - 1)) (nI (c + 1)) u')) :
    ls_sk post (n + 1) (nI i) (nI rest) (nI c) u := by
  have hi : i ≠ 0 := by
    intro e
    rw [e] at hT
    have := ls_T_0 hT
    rw [this] at hr
    exact absurd hr (Nat.not_lt_zero _)
  have uS : ls_u1 S := ls_u1_sub hu fun j => by rw [ls_ct_app, ls_ct_app]; omega
  have z0 : ls_ct 0 S = 0 := by
    rcases Nat.eq_zero_or_pos (ls_ct 0 S) with h | h
    · exact h
    · have := ls_T_in hT 0 h; omega
  have hi43 := ls_T_lt hT
  have hin := ls_in43 hi43
  have ci := ls_cln (n := i) (by omega)
  have h43 : ¬ (43 : Int32) ≤ nI c := nI_ge (a := c) (b := 43) hn (by omega)
  obtain ⟨f_spares, f_root, f_entries, f_cap, f_room, f_accAdd, f_accLow, f_accHigh, a_left, a_right, a_up, a_count, a_kind, a_amount, a_isVoid, a_turnBelow, a_voidBelow, a_live, a_netAll, a_netLive, a_add, a_low, a_high, a_spare, a_copyKind, a_copyAmount, a_copyVoid⟩ := u
  refine br_f h43 ?_
  refine ls_push rfl hc hcap hi hT uS fun u' l r A x B s1 r1 O1 e1 F1 => ?_
  have C1 : ls_C cap (ls_nv u') Z i S := ls_C_fr hC fun j hj => F1 j (by have := hu j; rw [ls_ct_app, ls_ct_app] at this; omega)
  obtain ⟨k1, k2, k3⟩ := K u' l r A x B s1 r1 O1 e1 C1 F1
  have h0' : ls_Ag cap (ls_nv u' 0).2 [] := by rw [F1 0 z0]; exact h0
  have hl := ls_T_Ag O1.2.2.2.2.2.1 h0'
  have hl43 := ls_T_lt O1.2.2.2.2.2.1
  have hinl := ls_in43 hl43
  have cl := ls_cln (n := l) (by omega)
  have hst := O1.2.2.2.2.1
  have hlen : A.length < 2 ^ 31 := by
    have := congrArg List.length e1
    rw [List.length_append] at this; omega
  obtain ⟨f_spares_1, f_root_1, f_entries_1, f_cap_1, f_room_1, f_accAdd_1, f_accLow_1, f_accHigh_1, a_left_1, a_right_1, a_up_1, a_count_1, a_kind_1, a_amount_1, a_isVoid_1, a_turnBelow_1, a_voidBelow_1, a_live_1, a_netAll_1, a_netLive_1, a_add_1, a_low_1, a_high_1, a_spare_1, a_copyKind_1, a_copyAmount_1, a_copyVoid_1⟩ := u'
  have e1l : a_left_1 i = nI l := congrArg (fun z => z.1) hst
  have e1r : a_right_1 i = nI r := congrArg (fun z => z.2.1) hst
  have ec : a_count_1 l = nI A.length := hl.1
  have el : a_left_1 (nI i).toNatClampNeg = nI l := by rw [ci]; exact e1l
  refine And.intro hin (And.intro (by rw [el]; exact hinl) (nm_r (e' := nI A.length) (by rw [el, cl]; exact ec) (br_c (fun h => k1 ?_) (fun h => br_c (fun h' => ?_) (fun h' => ?_)))))
  · exact (nI_eq (by omega) hlen).mp h
  · rw [nI_leI hlen (by omega)] at h'
    have hne : rest ≠ A.length := fun e => h (by rw [e])
    have hlt : A.length < rest := by omega
    refine nm_r (e' := nI (rest - A.length - 1)) ?_ ⟨hin, nm_r (e' := nI r) (by rw [ci]; exact e1r) (nm_r (e' := nI (c + 1)) (nI_1 c) (k3 hlt))⟩
    rw [ls_sub h']
    exact ls_sub (a := rest - A.length) (b := 1) (by omega)
  · rw [nI_leI hlen (by omega)] at h'
    exact ⟨hin, nm_r (e' := nI l) el (nm_r (e' := nI (c + 1)) (nI_1 c) (k2 (by omega)))⟩
theorem ls_skl {post : Int32 → SX → Prop} {cap : Nat} (hc : cap ≤ 60) : ∀ (n : Nat) (u : SX) (i rest c : Nat) (Z : List ls_Fm) (S : List ls_It), S.length < n → c + S.length ≤ 43 → ls_cp u = nI cap → ls_Ag cap (ls_nv u 0).2 [] →
    ls_T cap (ls_nv u) i (ls_par Z) S → ls_C cap (ls_nv u) Z i S → ls_u1 (ls_lq Z ++ S ++ ls_rq Z) → rest < S.length →
    (∀ (u' : SX) (i' l r : Nat) (Z1 : List ls_Fm) (A : List ls_It) (x : ls_It) (B : List ls_It), ls_sc u' = ls_sc u → ls_ro u' = ls_ro u → ls_On cap (ls_nv u') i' (ls_par (Z1 ++ Z)) l r A x B → ls_C cap (ls_nv u') (Z1 ++ Z) i' (A ++ x :: B) →
      (ls_lq (Z1 ++ Z) ++ A).length = (ls_lq Z).length + rest → ls_lq (Z1 ++ Z) ++ (A ++ x :: B) ++ ls_rq (Z1 ++ Z) = ls_lq Z ++ S ++ ls_rq Z →
      (∀ j, ls_ct j S = 0 → ls_nv u' j = ls_nv u j) → post (nI i') u') → ls_sk post n (nI i) (nI rest) (nI c) u := by
  intro n
  induction n with
  | zero => intro u i rest c Z S h; omega
  | succ n ih =>
    intro u i rest c Z S hn hcS hcap h0 hT hC hu hr K
    refine ls_sk1 hc hcap (by omega) h0 hT hC hu hr (by omega) fun u' l r A x B s1 r1 O1 e1 C1 F1 => ⟨fun he => ?_, fun hlt => ?_, fun hlt => ?_⟩
    · subst e1
      exact K u' i l r [] A x B s1 r1 O1 C1 (by rw [List.nil_append, List.length_append, he]) rfl F1
    all_goals
      have z0 : ls_ct 0 S = 0 := by
        rcases Nat.eq_zero_or_pos (ls_ct 0 S) with h | h
        · exact h
        · have := ls_T_in hT 0 h; omega
      have h0' : ls_Ag cap (ls_nv u' 0).2 [] := by rw [F1 0 z0]; exact h0
      have hcap' : ls_cp u' = nI cap := (ls_cp_sc s1).trans hcap
      have hx : x.1 = i := O1.2.2.1
      have lS : S.length = A.length + (B.length + 1) := by rw [e1, List.length_append, List.length_cons]
    · have eF : ls_lq ((false, x, B) :: Z) ++ A ++ ls_rq ((false, x, B) :: Z) = ls_lq Z ++ S ++ ls_rq Z := by rw [ls_full, e1]; rfl
      refine ih u' l rest (c + 1) ((false, x, B) :: Z) A (by omega) (by omega) hcap' h0' ?_ (ls_C_l O1 (by rw [← e1]; exact C1)) (by rw [eF]; exact hu) hlt ?_
      · show ls_T cap (ls_nv u') l x.1 A
        rw [hx]; exact O1.2.2.2.2.2.1
      · intro v i' l' r' Z1 A' x' B' s2 r2 O2 C2 q1 q2 F2
        have eZ : Z1 ++ (false, x, B) :: Z = (Z1 ++ [(false, x, B)]) ++ Z := by rw [List.append_assoc]; rfl
        rw [eF] at q2
        rw [eZ] at O2 C2 q1 q2
        refine K v i' l' r' (Z1 ++ [(false, x, B)]) A' x' B' (s2.trans s1) (r2.trans r1) O2 C2 q1 q2 fun j hj => (F2 j ?_).trans (F1 j hj)
        rw [e1, ls_ct_app] at hj; omega
    · have eF : ls_lq ((true, x, A) :: Z) ++ B ++ ls_rq ((true, x, A) :: Z) = ls_lq Z ++ S ++ ls_rq Z := by rw [ls_full, e1]; rfl
      refine ih u' r (rest - A.length - 1) (c + 1) ((true, x, A) :: Z) B (by omega) (by omega) hcap' h0' ?_ (ls_C_r O1 (by rw [← e1]; exact C1)) (by rw [eF]; exact hu) (by omega) ?_
      · show ls_T cap (ls_nv u') r x.1 B
        rw [hx]; exact O1.2.2.2.2.2.2.1
      · intro v i' l' r' Z1 A' x' B' s2 r2 O2 C2 q1 q2 F2
        have eZ : Z1 ++ (true, x, A) :: Z = (Z1 ++ [(true, x, A)]) ++ Z := by rw [List.append_assoc]; rfl
        rw [eF] at q2
        rw [eZ] at O2 C2 q1 q2
        refine K v i' l' r' (Z1 ++ [(true, x, A)]) A' x' B' (s2.trans s1) (r2.trans r1) O2 C2 ?_ q2 fun j hj => (F2 j ?_).trans (F1 j hj)
        · rw [q1]
          show (ls_lq Z ++ (A ++ [x])).length + (rest - A.length - 1) = _
          rw [List.length_append, List.length_append, List.length_singleton]; omega
        · rw [e1, ls_ct_app, ls_ct_cons] at hj; omega
end
section
/-! rotate: what stands around a node and its parent -/
def ls_oc (i j : Nat) : Nat := if i = j then 1 else 0
theorem ls_oc_s (j : Nat) : ls_oc j j = 1 := if_pos rfl
def ls_hS (d : Bool) (i : Nat) (s : ls_St) : ls_St := if d then (s.1, nI i, s.2.2) else (nI i, s.2)
theorem ls_C_hole {cap : Nat} {g g' : Nat → ls_ND} {Z : List ls_Fm} {p i : Nat} {S : List ls_It} (hC : ls_C cap g Z p S) (hp : ∀ j, ls_ct j (ls_lq Z) + ls_ct j (ls_rq Z) ≤ 1)
    (hf : ∀ j, 0 < ls_ct j (ls_lq Z) + ls_ct j (ls_rq Z) → j ≠ ls_par Z → g' j = g j) (hh : ∀ d w D Z', Z = (d, w, D) :: Z' → g' w.1 = (ls_hS d i (g w.1).1, (g w.1).2)) : ls_C cap g' Z i S := by
  cases Z with
  | nil => exact True.intro
  | cons f Z =>
    obtain ⟨d, w, D⟩ := f
    obtain ⟨c, h1, h2, h3, h4, h5, h6, h7⟩ := hC
    have e := hh d w D Z rfl
    have t := hp w.1
    rw [ls_ct_q, if_pos rfl] at t
    refine ⟨c, h1, h2, h3, ?_, ls_T_fr h5 fun j hj => hf j ?_ ?_, by rw [e]; exact h6, ls_C_fr h7 fun j hj => hf j ?_ ?_⟩
    · rw [e, h4]; cases d <;> rfl
    · rw [ls_ct_q]; omega
    · intro z
      have z' : j = w.1 := z
      rw [z'] at hj; omega
    · rw [ls_ct_q]; omega
    · intro z
      have z' : j = w.1 := z
      rw [z'] at hj; omega
/-- the node i, open, its parent y open, the way Z above them -/
def ls_Rc (cap : Nat) (g : Nat → ls_ND) (i l r c : Nat) (d : Bool) (A : List ls_It) (x : ls_It) (B : List ls_It) (y : ls_It) (C : List ls_It) (Z : List ls_Fm) : Prop :=
  ls_On cap g i y.1 l r A x B ∧ 0 < y.1 ∧ y.1 < 43 ∧ ls_ok cap y ∧ (g y.1).1 = ls_fs d i c (ls_par Z) y ∧ ls_T cap g c y.1 C ∧ ls_C cap g Z y.1 (ls_pl d y C (A ++ x :: B)) ∧
  (∀ j, ls_ct j (ls_lq Z) + ls_ct j (ls_rq Z) + ls_ct j A + ls_ct j B + ls_ct j C + ls_oc i j + ls_oc y.1 j ≤ 1) ∧ ls_Ag cap (g 0).2 [] ∧ A.length ≤ 300 ∧ B.length ≤ 300 ∧ C.length ≤ 300 ∧ ls_par Z < 43 ∧
  (ls_par Z = 0 ∨ 0 < ls_ct (ls_par Z) (ls_lq Z) + ls_ct (ls_par Z) (ls_rq Z))
theorem ls_par_ct {Z : List ls_Fm} : ls_par Z = 0 ∨ 0 < ls_ct (ls_par Z) (ls_lq Z) + ls_ct (ls_par Z) (ls_rq Z) := by
  cases Z with
  | nil => exact Or.inl rfl
  | cons f Z =>
    obtain ⟨d, w, D⟩ := f
    refine Or.inr ?_
    show 0 < ls_ct w.1 _ + ls_ct w.1 _
    rw [ls_ct_q, if_pos rfl]; omega
section
variable {cap : Nat} {g : Nat → ls_ND} {i l r c : Nat} {d : Bool} {A : List ls_It} {x : ls_It} {B : List ls_It} {y : ls_It} {C : List ls_It} {Z : List ls_Fm}
theorem ls_T_or {k p : Nat} {S : List ls_It} (h : ls_T cap g k p S) : k = 0 ∨ 0 < ls_ct k S := by
  by_cases z : k = 0
  · exact Or.inl z
  · exact Or.inr (ls_T_self h z)
theorem ls_Rc_A (h : ls_Rc cap g i l r c d A x B y C Z) : ∀ j, 0 < ls_ct j A → 0 < j ∧ j ≠ i ∧ j ≠ y.1 ∧ j ≠ r ∧ j ≠ ls_par Z := by
  obtain ⟨hO, y0, y43, oy, hy, hC, hZ, tc, h0, lA, lB, lC, pZ, hz⟩ := h
  intro j hj
  have j0 := (ls_T_in hO.2.2.2.2.2.1 j hj).1
  have hr := ls_T_or hO.2.2.2.2.2.2.1
  refine ⟨j0, fun e => ?_, fun e => ?_, fun e => ?_, fun e => ?_⟩
  · rw [e] at hj; have t := tc i; rw [ls_oc_s] at t; omega
  · rw [e] at hj; have t := tc y.1; rw [ls_oc_s] at t; omega
  · rw [e] at hj j0; have t := tc r; omega
  · rw [e] at hj j0; have t := tc (ls_par Z); omega
theorem ls_Rc_B (h : ls_Rc cap g i l r c d A x B y C Z) : ∀ j, 0 < ls_ct j B → 0 < j ∧ j ≠ i ∧ j ≠ y.1 ∧ j ≠ l ∧ j ≠ ls_par Z := by
  obtain ⟨hO, y0, y43, oy, hy, hC, hZ, tc, h0, lA, lB, lC, pZ, hz⟩ := h
  intro j hj
  have j0 := (ls_T_in hO.2.2.2.2.2.2.1 j hj).1
  have hl := ls_T_or hO.2.2.2.2.2.1
  refine ⟨j0, fun e => ?_, fun e => ?_, fun e => ?_, fun e => ?_⟩
  · rw [e] at hj; have t := tc i; rw [ls_oc_s] at t; omega
  · rw [e] at hj; have t := tc y.1; rw [ls_oc_s] at t; omega
  · rw [e] at hj j0; have t := tc l; omega
  · rw [e] at hj j0; have t := tc (ls_par Z); omega
theorem ls_Rc_C (h : ls_Rc cap g i l r c d A x B y C Z) : ∀ j, 0 < ls_ct j C → 0 < j ∧ j ≠ i ∧ j ≠ y.1 ∧ j ≠ l ∧ j ≠ r ∧ j ≠ ls_par Z := by
  obtain ⟨hO, y0, y43, oy, hy, hC, hZ, tc, h0, lA, lB, lC, pZ, hz⟩ := h
  intro j hj
  have j0 := (ls_T_in hC j hj).1
  have hl := ls_T_or hO.2.2.2.2.2.1
  have hr := ls_T_or hO.2.2.2.2.2.2.1
  refine ⟨j0, fun e => ?_, fun e => ?_, fun e => ?_, fun e => ?_, fun e => ?_⟩
  · rw [e] at hj; have t := tc i; rw [ls_oc_s] at t; omega
  · rw [e] at hj; have t := tc y.1; rw [ls_oc_s] at t; omega
  · rw [e] at hj j0; have t := tc l; omega
  · rw [e] at hj j0; have t := tc r; omega
  · rw [e] at hj j0; have t := tc (ls_par Z); omega
theorem ls_Z_pos : ∀ {Z : List ls_Fm} {i : Nat} {S : List ls_It}, ls_C cap g Z i S → ∀ j, 0 < ls_ct j (ls_lq Z) + ls_ct j (ls_rq Z) → 0 < j ∧ j < 43
  | [], _, _, _, j, hj => absurd hj (by show ¬ 0 < 0 + 0; omega)
  | (d, y, C) :: Z, i, S, h, j, hj => by
    obtain ⟨c, h1, h2, h3, h4, h5, h6, h7⟩ := h
    rw [ls_ct_q] at hj
    by_cases e : y.1 = j
    · exact ⟨by omega, by omega⟩
    · rw [if_neg e] at hj
      by_cases z : 0 < ls_ct j C
      · exact ls_T_in h5 j z
      · exact ls_Z_pos h7 j (by omega)
theorem ls_Rc_Z (h : ls_Rc cap g i l r c d A x B y C Z) : ∀ j, 0 < ls_ct j (ls_lq Z) + ls_ct j (ls_rq Z) → 0 < j ∧ j ≠ i ∧ j ≠ y.1 ∧ j ≠ l ∧ j ≠ r := by
  obtain ⟨hO, y0, y43, oy, hy, hC, hZ, tc, h0, lA, lB, lC, pZ, hz⟩ := h
  intro j hj
  have j0 := (ls_Z_pos hZ j hj).1
  have hl := ls_T_or hO.2.2.2.2.2.1
  have hr := ls_T_or hO.2.2.2.2.2.2.1
  refine ⟨j0, fun e => ?_, fun e => ?_, fun e => ?_, fun e => ?_⟩
  · rw [e] at hj; have t := tc i; rw [ls_oc_s] at t; omega
  · rw [e] at hj; have t := tc y.1; rw [ls_oc_s] at t; omega
  · rw [e] at hj j0; have t := tc l; omega
  · rw [e] at hj j0; have t := tc r; omega
theorem ls_Rc_f (h : ls_Rc cap g i l r c d A x B y C Z) : i ≠ y.1 ∧ l ≠ i ∧ l ≠ y.1 ∧ r ≠ i ∧ r ≠ y.1 ∧ c ≠ i ∧ c ≠ y.1 ∧ ls_par Z ≠ i ∧ ls_par Z ≠ y.1 ∧ (ls_par Z ≠ 0 → ls_par Z ≠ r ∧ ls_par Z ≠ l) ∧ 0 < i ∧ 0 < y.1 ∧ (r ≠ 0 → l ≠ r) ∧ (l ≠ 0 → l ≠ r) := by
  have hA := ls_Rc_A h
  have hB := ls_Rc_B h
  have hCC := ls_Rc_C h
  have hZZ := ls_Rc_Z h
  obtain ⟨hO, y0, y43, oy, hy, hC, hZ, tc, h0, lA, lB, lC, pZ, hz⟩ := h
  have i0 := hO.1
  have hl := ls_T_or hO.2.2.2.2.2.1
  have hr := ls_T_or hO.2.2.2.2.2.2.1
  have hc := ls_T_or hC
  refine ⟨fun e => ?_, fun e => ?_, fun e => ?_, fun e => ?_, fun e => ?_, fun e => ?_, fun e => ?_, fun e => ?_, fun e => ?_, fun n => ⟨fun e => ?_, fun e => ?_⟩, i0, y0, fun n => fun e => ?_, fun n => fun e => ?_⟩
  · have t := tc i; rw [← e, ls_oc_s] at t; omega
  · rcases hl with z | z
    · omega
    · exact (hA l z).2.1 e
  · rcases hl with z | z
    · omega
    · exact (hA l z).2.2.1 e
  · rcases hr with z | z
    · omega
    · exact (hB r z).2.1 e
  · rcases hr with z | z
    · omega
    · exact (hB r z).2.2.1 e
  · rcases hc with z | z
    · omega
    · exact (hCC c z).2.1 e
  · rcases hc with z | z
    · omega
    · exact (hCC c z).2.2.1 e
  · rcases hz with z | z
    · omega
    · exact (hZZ _ z).2.1 e
  · rcases hz with z | z
    · omega
    · exact (hZZ _ z).2.2.1 e
  · rcases hz with z | z
    · omega
    · exact (hZZ _ z).2.2.2.2 e
  · rcases hz with z | z
    · omega
    · exact (hZZ _ z).2.2.2.1 e
  · rcases hr with z | z
    · omega
    · exact (hB r z).2.2.2.1 e.symm
  · rcases hl with z | z
    · omega
    · exact (hA l z).2.2.2.1 e
theorem ls_Rc_mk (hO : ls_On cap g i y.1 l r A x B) (hC : ls_C cap g ((d, y, C) :: Z) i (A ++ x :: B)) (hu : ls_u1 (ls_lq ((d, y, C) :: Z) ++ (A ++ x :: B) ++ ls_rq ((d, y, C) :: Z)))
    (h0 : ls_Ag cap (g 0).2 []) (hlen : (ls_lq ((d, y, C) :: Z) ++ (A ++ x :: B) ++ ls_rq ((d, y, C) :: Z)).length ≤ 300) : ∃ c, ls_Rc cap g i l r c d A x B y C Z := by
  obtain ⟨c, h1, h2, h3, h4, h5, h6, h7⟩ := hC
  have len : A.length ≤ 300 ∧ B.length ≤ 300 ∧ C.length ≤ 300 := by
    rw [ls_full] at hlen
    rw [List.length_append, List.length_append] at hlen
    cases d
    · have e : (ls_pl false y C (A ++ x :: B)).length = A.length + (B.length + 1) + (C.length + 1) := by
        show ((A ++ x :: B) ++ y :: C).length = _
        rw [List.length_append, List.length_append, List.length_cons, List.length_cons]
      omega
    · have e : (ls_pl true y C (A ++ x :: B)).length = C.length + (A.length + (B.length + 1) + 1) := by
        show (C ++ y :: (A ++ x :: B)).length = _
        rw [List.length_append, List.length_cons, List.length_append, List.length_cons]
      omega
  refine ⟨c, hO, h1, h2, h3, h4, h5, h7, fun j => ?_, h0, len.1, len.2.1, len.2.2, (ls_C_par h7).1, ls_par_ct⟩
  have t := hu j
  rw [ls_full, ls_ct_app, ls_ct_app, ls_ct_pl, ls_ct_app, ls_ct_cons, hO.2.2.1] at t
  unfold ls_oc; omega
end
end
section
/-! rotate -/
section
variable {f_spares f_root f_entries f_cap f_room f_accAdd f_accLow f_accHigh : Int32} {a_left a_right a_up a_count a_kind a_amount a_isVoid a_turnBelow a_voidBelow a_live a_netAll a_netLive a_add a_low a_high a_spare a_copyKind a_copyAmount a_copyVoid : Nat → Int32}
theorem ls_r131F {u0 : SX} {cap i l r c : Nat} {A : List ls_It} {x : ls_It} {B : List ls_It} {y : ls_It} {C : List ls_It} {Z : List ls_Fm} {post : SX → Prop} (hc : cap ≤ 60) (hcap : ls_cp (f_spares, f_root, f_entries, f_cap, f_room, f_accAdd, f_accLow, f_accHigh, a_left, a_right, a_up, a_count, a_kind, a_amount, a_isVoid, a_turnBelow, a_voidBelow, a_live, a_netAll, a_netLive, a_add, a_low, a_high, a_spare, a_copyKind, a_copyAmount, a_copyVoid) = nI cap)
    (hR : ls_Rc cap (ls_nv u0) i l r c false A x B y C Z) (hs : ls_sc (f_spares, f_root, f_entries, f_cap, f_room, f_accAdd, f_accLow, f_accHigh, a_left, a_right, a_up, a_count, a_kind, a_amount, a_isVoid, a_turnBelow, a_voidBelow, a_live, a_netAll, a_netLive, a_add, a_low, a_high, a_spare, a_copyKind, a_copyAmount, a_copyVoid) = ls_sc u0) (hro : ls_ro (f_spares, f_root, f_entries, f_cap, f_room, f_accAdd, f_accLow, f_accHigh, a_left, a_right, a_up, a_count, a_kind, a_amount, a_isVoid, a_turnBelow, a_voidBelow, a_live, a_netAll, a_netLive, a_add, a_low, a_high, a_spare, a_copyKind, a_copyAmount, a_copyVoid) = ls_ro u0)
    (H1 : (ls_nv (f_spares, f_root, f_entries, f_cap, f_room, f_accAdd, f_accLow, f_accHigh, a_left, a_right, a_up, a_count, a_kind, a_amount, a_isVoid, a_turnBelow, a_voidBelow, a_live, a_netAll, a_netLive, a_add, a_low, a_high, a_spare, a_copyKind, a_copyAmount, a_copyVoid) y.1).1 = ls_st r c i y false none) (H2 : (ls_nv (f_spares, f_root, f_entries, f_cap, f_room, f_accAdd, f_accLow, f_accHigh, a_left, a_right, a_up, a_count, a_kind, a_amount, a_isVoid, a_turnBelow, a_voidBelow, a_live, a_netAll, a_netLive, a_add, a_low, a_high, a_spare, a_copyKind, a_copyAmount, a_copyVoid) i).1 = ls_st l y.1 (ls_par Z) x false none)
    (H3 : r ≠ 0 → ls_nv (f_spares, f_root, f_entries, f_cap, f_room, f_accAdd, f_accLow, f_accHigh, a_left, a_right, a_up, a_count, a_kind, a_amount, a_isVoid, a_turnBelow, a_voidBelow, a_live, a_netAll, a_netLive, a_add, a_low, a_high, a_spare, a_copyKind, a_copyAmount, a_copyVoid) r = (ls_uS y.1 (ls_nv u0 r).1, (ls_nv u0 r).2)) (H0 : ls_nv (f_spares, f_root, f_entries, f_cap, f_room, f_accAdd, f_accLow, f_accHigh, a_left, a_right, a_up, a_count, a_kind, a_amount, a_isVoid, a_turnBelow, a_voidBelow, a_live, a_netAll, a_netLive, a_add, a_low, a_high, a_spare, a_copyKind, a_copyAmount, a_copyVoid) 0 = ls_nv u0 0)
    (H4 : ∀ j, j ≠ y.1 → j ≠ i → j ≠ r → j ≠ ls_par Z → ls_nv (f_spares, f_root, f_entries, f_cap, f_room, f_accAdd, f_accLow, f_accHigh, a_left, a_right, a_up, a_count, a_kind, a_amount, a_isVoid, a_turnBelow, a_voidBelow, a_live, a_netAll, a_netLive, a_add, a_low, a_high, a_spare, a_copyKind, a_copyAmount, a_copyVoid) j = ls_nv u0 j)
    (H5 : ∀ d w D Z', Z = (d, w, D) :: Z' → ls_nv (f_spares, f_root, f_entries, f_cap, f_room, f_accAdd, f_accLow, f_accHigh, a_left, a_right, a_up, a_count, a_kind, a_amount, a_isVoid, a_turnBelow, a_voidBelow, a_live, a_netAll, a_netLive, a_add, a_low, a_high, a_spare, a_copyKind, a_copyAmount, a_copyVoid) w.1 = (ls_hS d i (ls_nv u0 w.1).1, (ls_nv u0 w.1).2))
    (K : ∀ (u' : SX), ls_sc u' = ls_sc u0 → ls_ro u' = ls_ro u0 → ls_On cap (ls_nv u') i (ls_par Z) l y.1 A x (B ++ y :: C) → ls_C cap (ls_nv u') Z i (A ++ x :: (B ++ y :: C)) → (∀ j, ls_ct j (ls_lq Z ++ (A ++ x :: (B ++ y :: C)) ++ ls_rq Z) = 0 → ls_nv u' j = ls_nv u0 j) → (∀ j, 0 < ls_ct j A → ls_nv u' j = ls_nv u0 j) → post u') : wX_rotate_131 post (nI i) (nI y.1) f_spares f_root f_entries f_cap f_room f_accAdd f_accLow f_accHigh a_left a_right a_up a_count a_kind a_amount a_isVoid a_turnBelow a_voidBelow a_live a_netAll a_netLive a_add a_low a_high a_spare a_copyKind a_copyAmount a_copyVoid := by
  have fA := ls_Rc_A hR
  have fB := ls_Rc_B hR
  have fC := ls_Rc_C hR
  have fZ := ls_Rc_Z hR
  obtain ⟨nip, nli, nlp, nri, nrp, nci, ncp, ngi, ngp, ngr, i0, p0, nlr, nlr'⟩ := ls_Rc_f hR
  obtain ⟨hO, y0, y43, oy, hy, hC, hZ, tc, h0, lA, lB, lC, pZ, hz⟩ := hR
  obtain ⟨o1, o2, o3, o4, o5, o6, o7, o8⟩ := hO
  have oA := ls_T_oks o6
  have oB := ls_T_oks o7
  have oC := ls_T_oks hC
  have To : ls_T cap (ls_nv (f_spares, f_root, f_entries, f_cap, f_room, f_accAdd, f_accLow, f_accHigh, a_left, a_right, a_up, a_count, a_kind, a_amount, a_isVoid, a_turnBelow, a_voidBelow, a_live, a_netAll, a_netLive, a_add, a_low, a_high, a_spare, a_copyKind, a_copyAmount, a_copyVoid)) l i A := ls_T_fr o6 fun j hj => H4 j (fA j hj).2.2.1 (fA j hj).2.1 (fA j hj).2.2.2.1 (fA j hj).2.2.2.2
  have Tn : ls_T cap (ls_nv (f_spares, f_root, f_entries, f_cap, f_room, f_accAdd, f_accLow, f_accHigh, a_left, a_right, a_up, a_count, a_kind, a_amount, a_isVoid, a_turnBelow, a_voidBelow, a_live, a_netAll, a_netLive, a_add, a_low, a_high, a_spare, a_copyKind, a_copyAmount, a_copyVoid)) r y.1 B := by
    refine ls_T_up o7 (fun j => by have := tc j; omega) (fun j hj hn => H4 j (fB j hj).2.2.1 (fB j hj).2.1 hn (fB j hj).2.2.2.2) H3
  have Tc : ls_T cap (ls_nv (f_spares, f_root, f_entries, f_cap, f_room, f_accAdd, f_accLow, f_accHigh, a_left, a_right, a_up, a_count, a_kind, a_amount, a_isVoid, a_turnBelow, a_voidBelow, a_live, a_netAll, a_netLive, a_add, a_low, a_high, a_spare, a_copyKind, a_copyAmount, a_copyVoid)) c y.1 C := ls_T_fr hC fun j hj => H4 j (fC j hj).2.2.1 (fC j hj).2.1 (fC j hj).2.2.2.2.1 (fC j hj).2.2.2.2.2
  have CZ : ls_C cap (ls_nv (f_spares, f_root, f_entries, f_cap, f_room, f_accAdd, f_accLow, f_accHigh, a_left, a_right, a_up, a_count, a_kind, a_amount, a_isVoid, a_turnBelow, a_voidBelow, a_live, a_netAll, a_netLive, a_add, a_low, a_high, a_spare, a_copyKind, a_copyAmount, a_copyVoid)) Z i (A ++ x :: (B ++ y :: C)) := by
    have q : A ++ x :: (B ++ y :: C) = ls_pl false y C (A ++ x :: B) := by show _ = (A ++ x :: B) ++ y :: C; rw [List.append_assoc]; rfl
    rw [q]
    refine ls_C_hole hZ (fun j => by have := tc j; omega) (fun j hj hn => H4 j (fZ j hj).2.2.1 (fZ j hj).2.1 (fZ j hj).2.2.2.2 hn) H5
  have h0' : ls_Ag cap (ls_nv (f_spares, f_root, f_entries, f_cap, f_room, f_accAdd, f_accLow, f_accHigh, a_left, a_right, a_up, a_count, a_kind, a_amount, a_isVoid, a_turnBelow, a_voidBelow, a_live, a_netAll, a_netLive, a_add, a_low, a_high, a_spare, a_copyKind, a_copyAmount, a_copyVoid) 0).2 [] := by rw [H0]; exact h0
  have r43 := ls_T_lt Tn
  have l43 := ls_T_lt To
  have c43 := ls_T_lt Tc
  unfold wX_rotate_131
  refine ls_pull (i := y.1) (p := i) (x := y) (l := r) (r := c) (A := B) (B := C) rfl hc hcap y43 r43 c43 nrp ncp H1 (ls_T_Ag Tn h0') (ls_T_Ag Tc h0') oB oC oy (by omega) (by omega) fun u2 s2 r2 e2 a2 F2 => ?_
  have hcap2 : ls_cp u2 = nI cap := (ls_cp_sc s2).trans hcap
  have Tp2 : ls_T cap (ls_nv u2) y.1 i (B ++ y :: C) := by
    refine ls_On_T (l := r) (r := c) ⟨y0, y43, rfl, oy, e2.trans H1, ls_T_fr Tn fun j hj => F2 j (fB j hj).2.2.1, ls_T_fr Tc fun j hj => F2 j (fC j hj).2.2.1, a2⟩
  have To2 : ls_T cap (ls_nv u2) l i A := ls_T_fr To fun j hj => F2 j (fA j hj).2.2.1
  have h02 : ls_Ag cap (ls_nv u2 0).2 [] := by rw [F2 0 (by omega)]; exact h0'
  have H22 : (ls_nv u2 i).1 = ls_st l y.1 (ls_par Z) x false none := by rw [F2 i nip]; exact H2
  have CZ2 : ls_C cap (ls_nv u2) Z i (A ++ x :: (B ++ y :: C)) := ls_C_fr CZ fun j hj => F2 j (fZ j hj).2.2.1
  have s2' := s2.trans hs
  have r2' := r2.trans hro
  have oPL : ls_oks cap (B ++ y :: C) := ls_T_oks Tp2
  have lPL : (B ++ y :: C).length ≤ 1000 := by rw [List.length_append, List.length_cons]; omega
  obtain ⟨f_spares_2, f_root_2, f_entries_2, f_cap_2, f_room_2, f_accAdd_2, f_accLow_2, f_accHigh_2, a_left_2, a_right_2, a_up_2, a_count_2, a_kind_2, a_amount_2, a_isVoid_2, a_turnBelow_2, a_voidBelow_2, a_live_2, a_netAll_2, a_netLive_2, a_add_2, a_low_2, a_high_2, a_spare_2, a_copyKind_2, a_copyAmount_2, a_copyVoid_2⟩ := u2
  refine ls_pull (i := i) (p := ls_par Z) (x := x) (l := l) (r := y.1) (A := A) (B := B ++ y :: C) rfl hc hcap2 o2 l43 y43 nli (Ne.symm nip) H22 (ls_T_Ag To2 h02) (ls_T_Ag Tp2 h02) oA oPL o4 (by omega) lPL fun u3 s3 r3 e3 a3 F3 => ?_
  have On3 : ls_On cap (ls_nv u3) i (ls_par Z) l y.1 A x (B ++ y :: C) := by
    refine ⟨o1, o2, o3, o4, e3.trans H22, ls_T_fr To2 fun j hj => F3 j (fA j hj).2.1, ls_T_fr Tp2 fun j hj => F3 j (fun e => by rw [e, ls_ct_app, ls_ct_cons, if_neg (Ne.symm nip)] at hj; have := tc i; rw [ls_oc_s] at this; omega), a3⟩
  have CZ3 : ls_C cap (ls_nv u3) Z i (A ++ x :: (B ++ y :: C)) := ls_C_fr CZ2 fun j hj => F3 j (fZ j hj).2.1
  have fr : ∀ j, ls_ct j (ls_lq Z ++ (A ++ x :: (B ++ y :: C)) ++ ls_rq Z) = 0 → ls_nv u3 j = ls_nv u0 j := by
    intro j hj
    have hcj : ls_ct j A = 0 ∧ ls_ct j B = 0 ∧ ls_ct j C = 0 ∧ i ≠ j ∧ y.1 ≠ j ∧ ls_ct j (ls_lq Z) + ls_ct j (ls_rq Z) = 0 := by
      rw [ls_ct_app, ls_ct_app, ls_ct_app, ls_ct_cons, ls_ct_app, ls_ct_cons] at hj
      rw [o3] at hj
      refine ⟨by omega, by omega, by omega, fun e => ?_, fun e => ?_, by omega⟩
      · rw [if_pos e] at hj; omega
      · rw [if_pos e] at hj; omega
    obtain ⟨j1, j2, j3, j4, j5, j6⟩ := hcj
    refine (F3 j (Ne.symm j4)).trans ((F2 j (Ne.symm j5)).trans ?_)
    by_cases e : j = 0
    · rw [e]; exact H0
    · refine H4 j (Ne.symm j5) (Ne.symm j4) (fun z => ?_) (fun z => ?_)
      · have := ls_T_self o7 (by omega); rw [← z] at this; omega
      · rcases hz with q | q
        · omega
        · rw [← z] at q; omega
  have fo : ∀ j, 0 < ls_ct j A → ls_nv u3 j = ls_nv u0 j := fun j hj => (F3 j (fA j hj).2.1).trans ((F2 j (fA j hj).2.2.1).trans (H4 j (fA j hj).2.2.1 (fA j hj).2.1 (fA j hj).2.2.2.1 (fA j hj).2.2.2.2))
  have fin := K u3 (s3.trans s2') (r3.trans r2') On3 CZ3 fr fo
  obtain ⟨f_spares_3, f_root_3, f_entries_3, f_cap_3, f_room_3, f_accAdd_3, f_accLow_3, f_accHigh_3, a_left_3, a_right_3, a_up_3, a_count_3, a_kind_3, a_amount_3, a_isVoid_3, a_turnBelow_3, a_voidBelow_3, a_live_3, a_netAll_3, a_netLive_3, a_add_3, a_low_3, a_high_3, a_spare_3, a_copyKind_3, a_copyAmount_3, a_copyVoid_3⟩ := u3
  exact fin
theorem ls_r86F {u0 : SX} {cap i l r c : Nat} {A : List ls_It} {x : ls_It} {B : List ls_It} {y : ls_It} {C : List ls_It} {Z : List ls_Fm} {post : SX → Prop} (hc : cap ≤ 60) (hcap : ls_cp (f_spares, f_root, f_entries, f_cap, f_room, f_accAdd, f_accLow, f_accHigh, a_left, a_right, a_up, a_count, a_kind, a_amount, a_isVoid, a_turnBelow, a_voidBelow, a_live, a_netAll, a_netLive, a_add, a_low, a_high, a_spare, a_copyKind, a_copyAmount, a_copyVoid) = nI cap)
    (hR : ls_Rc cap (ls_nv u0) i l r c false A x B y C Z) (hs : ls_sc (f_spares, f_root, f_entries, f_cap, f_room, f_accAdd, f_accLow, f_accHigh, a_left, a_right, a_up, a_count, a_kind, a_amount, a_isVoid, a_turnBelow, a_voidBelow, a_live, a_netAll, a_netLive, a_add, a_low, a_high, a_spare, a_copyKind, a_copyAmount, a_copyVoid) = ls_sc u0) (hro : ls_ro (f_spares, f_root, f_entries, f_cap, f_room, f_accAdd, f_accLow, f_accHigh, a_left, a_right, a_up, a_count, a_kind, a_amount, a_isVoid, a_turnBelow, a_voidBelow, a_live, a_netAll, a_netLive, a_add, a_low, a_high, a_spare, a_copyKind, a_copyAmount, a_copyVoid) = ls_ro u0)
    (H1 : (ls_nv (f_spares, f_root, f_entries, f_cap, f_room, f_accAdd, f_accLow, f_accHigh, a_left, a_right, a_up, a_count, a_kind, a_amount, a_isVoid, a_turnBelow, a_voidBelow, a_live, a_netAll, a_netLive, a_add, a_low, a_high, a_spare, a_copyKind, a_copyAmount, a_copyVoid) y.1).1 = ls_st r c (ls_par Z) y false none) (H2 : (ls_nv (f_spares, f_root, f_entries, f_cap, f_room, f_accAdd, f_accLow, f_accHigh, a_left, a_right, a_up, a_count, a_kind, a_amount, a_isVoid, a_turnBelow, a_voidBelow, a_live, a_netAll, a_netLive, a_add, a_low, a_high, a_spare, a_copyKind, a_copyAmount, a_copyVoid) i).1 = ls_st l y.1 y.1 x false none)
    (H3 : r ≠ 0 → ls_nv (f_spares, f_root, f_entries, f_cap, f_room, f_accAdd, f_accLow, f_accHigh, a_left, a_right, a_up, a_count, a_kind, a_amount, a_isVoid, a_turnBelow, a_voidBelow, a_live, a_netAll, a_netLive, a_add, a_low, a_high, a_spare, a_copyKind, a_copyAmount, a_copyVoid) r = (ls_uS y.1 (ls_nv u0 r).1, (ls_nv u0 r).2)) (H0 : ls_nv (f_spares, f_root, f_entries, f_cap, f_room, f_accAdd, f_accLow, f_accHigh, a_left, a_right, a_up, a_count, a_kind, a_amount, a_isVoid, a_turnBelow, a_voidBelow, a_live, a_netAll, a_netLive, a_add, a_low, a_high, a_spare, a_copyKind, a_copyAmount, a_copyVoid) 0 = ls_nv u0 0)
    (H4 : ∀ j, j ≠ y.1 → j ≠ i → j ≠ r → ls_nv (f_spares, f_root, f_entries, f_cap, f_room, f_accAdd, f_accLow, f_accHigh, a_left, a_right, a_up, a_count, a_kind, a_amount, a_isVoid, a_turnBelow, a_voidBelow, a_live, a_netAll, a_netLive, a_add, a_low, a_high, a_spare, a_copyKind, a_copyAmount, a_copyVoid) j = ls_nv u0 j)
    (K : ∀ (u' : SX), ls_sc u' = ls_sc u0 → ls_ro u' = ls_ro u0 → ls_On cap (ls_nv u') i (ls_par Z) l y.1 A x (B ++ y :: C) → ls_C cap (ls_nv u') Z i (A ++ x :: (B ++ y :: C)) → (∀ j, ls_ct j (ls_lq Z ++ (A ++ x :: (B ++ y :: C)) ++ ls_rq Z) = 0 → ls_nv u' j = ls_nv u0 j) → (∀ j, 0 < ls_ct j A → ls_nv u' j = ls_nv u0 j) → post u') : wX_rotate_86 post (nI i) (nI y.1) (nI (ls_par Z)) f_spares f_root f_entries f_cap f_room f_accAdd f_accLow f_accHigh a_left a_right a_up a_count a_kind a_amount a_isVoid a_turnBelow a_voidBelow a_live a_netAll a_netLive a_add a_low a_high a_spare a_copyKind a_copyAmount a_copyVoid := by
  obtain ⟨nip, nli, nlp, nri, nrp, nci, ncp, ngi, ngp, ngr, i0, p0, nlr, nlr'⟩ := ls_Rc_f hR
  have i43 : i < 43 := hR.1.2.1
  have y43 : y.1 < 43 := hR.2.2.1
  have hinp := ls_in43 y43
  have hini := ls_in43 i43
  have cy := ls_cln (n := y.1) (by omega)
  have ci := ls_cln (n := i) (by omega)
  have hZ := hR.2.2.2.2.2.2.1
  have hcap' : f_cap = nI cap := hcap
  unfold wX_rotate_86
  refine ⟨hinp, nm_r (e' := upd a_up y.1 (nI i)) (by rw [cy]) ⟨hini, nm_r (e' := upd (upd a_up y.1 (nI i)) i (nI (ls_par Z))) (by rw [ci]) ?_⟩⟩
  cases Z with
  | nil =>
    have z0 : ls_par [] = 0 := rfl
    refine br_t nI_0 (ls_r131F hc hcap' hR (Eq.trans ls_scX hs) (Eq.trans ls_roX hro) ?_ ?_ (fun hn => ?_) ?_ (fun j j1 j2 j3 j4 => ?_) (fun d w D Z' e => by cases e) K)
    · have : (ls_nv (f_spares, f_root, f_entries, f_cap, f_room, f_accAdd, f_accLow, f_accHigh, a_left, a_right, upd (upd a_up y.1 (nI i)) i (nI (ls_par [])), a_count, a_kind, a_amount, a_isVoid, a_turnBelow, a_voidBelow, a_live, a_netAll, a_netLive, a_add, a_low, a_high, a_spare, a_copyKind, a_copyAmount, a_copyVoid) y.1).1 = ls_uS i (ls_nv (f_spares, f_root, f_entries, f_cap, f_room, f_accAdd, f_accLow, f_accHigh, a_left, a_right, a_up, a_count, a_kind, a_amount, a_isVoid, a_turnBelow, a_voidBelow, a_live, a_netAll, a_netLive, a_add, a_low, a_high, a_spare, a_copyKind, a_copyAmount, a_copyVoid) y.1).1 := by
        dsimp only [ls_nv, ls_uS]; simp (disch := omega) only [ls_un, ls_us]
      exact Eq.trans this (by rw [H1]; rfl)
    · have : (ls_nv (f_spares, f_root, f_entries, f_cap, f_room, f_accAdd, f_accLow, f_accHigh, a_left, a_right, upd (upd a_up y.1 (nI i)) i (nI (ls_par [])), a_count, a_kind, a_amount, a_isVoid, a_turnBelow, a_voidBelow, a_live, a_netAll, a_netLive, a_add, a_low, a_high, a_spare, a_copyKind, a_copyAmount, a_copyVoid) i).1 = ls_uS (ls_par []) (ls_nv (f_spares, f_root, f_entries, f_cap, f_room, f_accAdd, f_accLow, f_accHigh, a_left, a_right, a_up, a_count, a_kind, a_amount, a_isVoid, a_turnBelow, a_voidBelow, a_live, a_netAll, a_netLive, a_add, a_low, a_high, a_spare, a_copyKind, a_copyAmount, a_copyVoid) i).1 := by
        dsimp only [ls_nv, ls_uS]; simp (disch := omega) only [ls_un, ls_us]
      exact Eq.trans this (by rw [H2]; rfl)
    · rw [← H3 hn]; dsimp only [ls_nv]; simp (disch := omega) only [ls_un]
    · rw [← H0]; dsimp only [ls_nv]; simp (disch := omega) only [ls_un]
    · rw [← H4 j j1 j2 j3]; dsimp only [ls_nv]; simp (disch := omega) only [ls_un]
  | cons f Z =>
    obtain ⟨d', w, D⟩ := f
    obtain ⟨cD, w0, w43, ow, hw, hTD, _⟩ := hZ
    have g1 : w.1 ≠ i := ngi
    have g2 : w.1 ≠ y.1 := ngp
    have g3 : w.1 ≠ r := (ngr (by show w.1 ≠ 0; omega)).1
    have g4 : w.1 ≠ l := (ngr (by show w.1 ≠ 0; omega)).2
    have hinw := ls_in43 w43
    have cw := ls_cln (n := w.1) (by omega)
    have Hw := H4 w.1 g2 g1 g3
    have wl : a_left w.1 = (ls_nv u0 w.1).1.1 := congrArg (fun z => z.1.1) Hw
    refine br_f (nI_ne0 (n := w.1) w0 (by omega)) ⟨hinw, ?_⟩
    cases d' with
    | false =>
      have e : a_left (nI w.1).toNatClampNeg = nI y.1 := by rw [cw, wl, hw]; rfl
      refine br_t e ⟨hinw, nm_r (e' := upd a_left w.1 (nI i)) (by show upd a_left (nI w.1).toNatClampNeg _ = _; rw [cw]) (ls_r131F hc hcap' hR (Eq.trans ls_scX hs) (Eq.trans ls_roX hro) ?_ ?_ (fun hn => ?_) ?_ (fun j j1 j2 j3 j4 => ?_) (fun d w' D' Z' e => ?_) K)⟩
      · have : (ls_nv (f_spares, f_root, f_entries, f_cap, f_room, f_accAdd, f_accLow, f_accHigh, upd a_left w.1 (nI i), a_right, upd (upd a_up y.1 (nI i)) i (nI w.1), a_count, a_kind, a_amount, a_isVoid, a_turnBelow, a_voidBelow, a_live, a_netAll, a_netLive, a_add, a_low, a_high, a_spare, a_copyKind, a_copyAmount, a_copyVoid) y.1).1 = ls_uS i (ls_nv (f_spares, f_root, f_entries, f_cap, f_room, f_accAdd, f_accLow, f_accHigh, a_left, a_right, a_up, a_count, a_kind, a_amount, a_isVoid, a_turnBelow, a_voidBelow, a_live, a_netAll, a_netLive, a_add, a_low, a_high, a_spare, a_copyKind, a_copyAmount, a_copyVoid) y.1).1 := by
          dsimp only [ls_nv, ls_uS]; simp (disch := omega) only [ls_un, ls_us]
        exact Eq.trans this (by rw [H1]; rfl)
      · have : (ls_nv (f_spares, f_root, f_entries, f_cap, f_room, f_accAdd, f_accLow, f_accHigh, upd a_left w.1 (nI i), a_right, upd (upd a_up y.1 (nI i)) i (nI w.1), a_count, a_kind, a_amount, a_isVoid, a_turnBelow, a_voidBelow, a_live, a_netAll, a_netLive, a_add, a_low, a_high, a_spare, a_copyKind, a_copyAmount, a_copyVoid) i).1 = ls_uS w.1 (ls_nv (f_spares, f_root, f_entries, f_cap, f_room, f_accAdd, f_accLow, f_accHigh, a_left, a_right, a_up, a_count, a_kind, a_amount, a_isVoid, a_turnBelow, a_voidBelow, a_live, a_netAll, a_netLive, a_add, a_low, a_high, a_spare, a_copyKind, a_copyAmount, a_copyVoid) i).1 := by
          dsimp only [ls_nv, ls_uS]; simp (disch := omega) only [ls_un, ls_us]
        exact Eq.trans this (by rw [H2]; rfl)
      · rw [← H3 hn]; dsimp only [ls_nv]; simp (disch := omega) only [ls_un]
      · rw [← H0]; dsimp only [ls_nv]; simp (disch := omega) only [ls_un]
      · have j4' : j ≠ w.1 := j4
        rw [← H4 j j1 j2 j3]; dsimp only [ls_nv]; simp (disch := omega) only [ls_un]
      · obtain ⟨e1, e2⟩ := List.cons.inj e
        cases e1
        rw [← Hw]; dsimp only [ls_nv, ls_hS]; simp (disch := omega) only [ls_un, ls_us]; rfl
    | true =>
      have e : ¬ a_left (nI w.1).toNatClampNeg = nI y.1 := by
        have q : a_left (nI w.1).toNatClampNeg = nI cD := by rw [cw, wl, hw]; rfl
        rw [q]
        intro z
        have cD43 := ls_T_lt hTD
        have z' : cD = y.1 := (nI_eq (by omega) (by omega)).mp z
        have t := hR.2.2.2.2.2.2.2.1 y.1
        rw [ls_oc_s] at t
        have m := ls_T_self hTD (by omega)
        rw [z'] at m
        have v := ls_ct_q (j := y.1) (d := true) (y := w) (C := D) (Z := Z)
        omega
      refine br_f e ⟨hinw, nm_r (e' := upd a_right w.1 (nI i)) (by show upd a_right (nI w.1).toNatClampNeg _ = _; rw [cw]) (ls_r131F hc hcap' hR (Eq.trans ls_scX hs) (Eq.trans ls_roX hro) ?_ ?_ (fun hn => ?_) ?_ (fun j j1 j2 j3 j4 => ?_) (fun d w' D' Z' e => ?_) K)⟩
      · have : (ls_nv (f_spares, f_root, f_entries, f_cap, f_room, f_accAdd, f_accLow, f_accHigh, a_left, upd a_right w.1 (nI i), upd (upd a_up y.1 (nI i)) i (nI w.1), a_count, a_kind, a_amount, a_isVoid, a_turnBelow, a_voidBelow, a_live, a_netAll, a_netLive, a_add, a_low, a_high, a_spare, a_copyKind, a_copyAmount, a_copyVoid) y.1).1 = ls_uS i (ls_nv (f_spares, f_root, f_entries, f_cap, f_room, f_accAdd, f_accLow, f_accHigh, a_left, a_right, a_up, a_count, a_kind, a_amount, a_isVoid, a_turnBelow, a_voidBelow, a_live, a_netAll, a_netLive, a_add, a_low, a_high, a_spare, a_copyKind, a_copyAmount, a_copyVoid) y.1).1 := by
          dsimp only [ls_nv, ls_uS]; simp (disch := omega) only [ls_un, ls_us]
        exact Eq.trans this (by rw [H1]; rfl)
      · have : (ls_nv (f_spares, f_root, f_entries, f_cap, f_room, f_accAdd, f_accLow, f_accHigh, a_left, upd a_right w.1 (nI i), upd (upd a_up y.1 (nI i)) i (nI w.1), a_count, a_kind, a_amount, a_isVoid, a_turnBelow, a_voidBelow, a_live, a_netAll, a_netLive, a_add, a_low, a_high, a_spare, a_copyKind, a_copyAmount, a_copyVoid) i).1 = ls_uS w.1 (ls_nv (f_spares, f_root, f_entries, f_cap, f_room, f_accAdd, f_accLow, f_accHigh, a_left, a_right, a_up, a_count, a_kind, a_amount, a_isVoid, a_turnBelow, a_voidBelow, a_live, a_netAll, a_netLive, a_add, a_low, a_high, a_spare, a_copyKind, a_copyAmount, a_copyVoid) i).1 := by
          dsimp only [ls_nv, ls_uS]; simp (disch := omega) only [ls_un, ls_us]
        exact Eq.trans this (by rw [H2]; rfl)
      · rw [← H3 hn]; dsimp only [ls_nv]; simp (disch := omega) only [ls_un]
      · rw [← H0]; dsimp only [ls_nv]; simp (disch := omega) only [ls_un]
      · have j4' : j ≠ w.1 := j4
        rw [← H4 j j1 j2 j3]; dsimp only [ls_nv]; simp (disch := omega) only [ls_un]
      · obtain ⟨e1, e2⟩ := List.cons.inj e
        cases e1
        rw [← Hw]; dsimp only [ls_nv, ls_hS]; simp (disch := omega) only [ls_un, ls_us]; rfl
theorem ls_rotF {u : SX} {cap i l r c : Nat} {A : List ls_It} {x : ls_It} {B : List ls_It} {y : ls_It} {C : List ls_It} {Z : List ls_Fm} {q : Int32} {post : SX → Prop} (hq : q = nI i) (hc : cap ≤ 60) (hcap : ls_cp u = nI cap)
    (hR : ls_Rc cap (ls_nv u) i l r c false A x B y C Z)
    (K : ∀ (u' : SX), ls_sc u' = ls_sc u → ls_ro u' = ls_ro u → ls_On cap (ls_nv u') i (ls_par Z) l y.1 A x (B ++ y :: C) → ls_C cap (ls_nv u') Z i (A ++ x :: (B ++ y :: C)) → (∀ j, ls_ct j (ls_lq Z ++ (A ++ x :: (B ++ y :: C)) ++ ls_rq Z) = 0 → ls_nv u' j = ls_nv u j) → (∀ j, 0 < ls_ct j A → ls_nv u' j = ls_nv u j) → post u') : wpX_rotate post u q := by
  subst hq
  obtain ⟨nip, nli, nlp, nri, nrp, nci, ncp, ngi, ngp, ngr, i0, p0, nlr, nlr'⟩ := ls_Rc_f hR
  have i43 : i < 43 := hR.1.2.1
  have y43 : y.1 < 43 := hR.2.2.1
  have hinp := ls_in43 y43
  have hini := ls_in43 i43
  have cy := ls_cln (n := y.1) (by omega)
  have ci := ls_cln (n := i) (by omega)
  have hst := hR.1.2.2.2.2.1
  have hsp := hR.2.2.2.2.1
  have r43 : r < 43 := ls_T_lt hR.1.2.2.2.2.2.2.1
  have c43 : c < 43 := ls_T_lt hR.2.2.2.2.2.1
  obtain ⟨f_spares, f_root, f_entries, f_cap, f_room, f_accAdd, f_accLow, f_accHigh, a_left, a_right, a_up, a_count, a_kind, a_amount, a_isVoid, a_turnBelow, a_voidBelow, a_live, a_netAll, a_netLive, a_add, a_low, a_high, a_spare, a_copyKind, a_copyAmount, a_copyVoid⟩ := u
  have eu : a_up i = nI y.1 := congrArg (fun z => z.2.2.1) hst
  have eup : a_up y.1 = nI (ls_par Z) := congrArg (fun z => z.2.2.1) hsp
  have epl : a_left y.1 = nI i := congrArg (fun z => z.1) hsp
  have en : a_right i = nI r := congrArg (fun z => z.2.1) hst
  have hcap' : f_cap = nI cap := hcap
  unfold wpX_rotate
  refine ⟨hini, nm_r (e' := nI y.1) (by rw [ci]; exact eu) ⟨hinp, nm_r (e' := nI (ls_par Z)) (by rw [cy]; exact eup) ⟨hinp, br_t (by rw [cy]; exact epl) ⟨hini, nm_r (e' := nI r) (by rw [ci]; exact en) ⟨hinp, nm_r (e' := upd a_left y.1 (nI r)) (by rw [cy]) ⟨hini, nm_r (e' := upd a_right i (nI y.1)) (by rw [ci]) ?_⟩⟩⟩⟩⟩⟩
  unfold wX_rotate_73
  by_cases n0 : r = 0
  · refine br_t (by rw [n0]; exact nI_0) (ls_r86F (u0 := (f_spares, f_root, f_entries, f_cap, f_room, f_accAdd, f_accLow, f_accHigh, a_left, a_right, a_up, a_count, a_kind, a_amount, a_isVoid, a_turnBelow, a_voidBelow, a_live, a_netAll, a_netLive, a_add, a_low, a_high, a_spare, a_copyKind, a_copyAmount, a_copyVoid)) hc hcap' hR ls_scX ls_roX ?_ ?_ (fun hn => absurd n0 hn) ?_ (fun j j1 j2 j3 => ?_) K)
    · have : (ls_nv (f_spares, f_root, f_entries, f_cap, f_room, f_accAdd, f_accLow, f_accHigh, upd a_left y.1 (nI r), upd a_right i (nI y.1), a_up, a_count, a_kind, a_amount, a_isVoid, a_turnBelow, a_voidBelow, a_live, a_netAll, a_netLive, a_add, a_low, a_high, a_spare, a_copyKind, a_copyAmount, a_copyVoid) y.1).1 = (nI r, (ls_nv (f_spares, f_root, f_entries, f_cap, f_room, f_accAdd, f_accLow, f_accHigh, a_left, a_right, a_up, a_count, a_kind, a_amount, a_isVoid, a_turnBelow, a_voidBelow, a_live, a_netAll, a_netLive, a_add, a_low, a_high, a_spare, a_copyKind, a_copyAmount, a_copyVoid) y.1).1.2) := by
        dsimp only [ls_nv]; simp (disch := omega) only [ls_un, ls_us]
      rw [this, hsp]; rfl
    · have : (ls_nv (f_spares, f_root, f_entries, f_cap, f_room, f_accAdd, f_accLow, f_accHigh, upd a_left y.1 (nI r), upd a_right i (nI y.1), a_up, a_count, a_kind, a_amount, a_isVoid, a_turnBelow, a_voidBelow, a_live, a_netAll, a_netLive, a_add, a_low, a_high, a_spare, a_copyKind, a_copyAmount, a_copyVoid) i).1 = ((ls_nv (f_spares, f_root, f_entries, f_cap, f_room, f_accAdd, f_accLow, f_accHigh, a_left, a_right, a_up, a_count, a_kind, a_amount, a_isVoid, a_turnBelow, a_voidBelow, a_live, a_netAll, a_netLive, a_add, a_low, a_high, a_spare, a_copyKind, a_copyAmount, a_copyVoid) i).1.1, nI y.1, (ls_nv (f_spares, f_root, f_entries, f_cap, f_room, f_accAdd, f_accLow, f_accHigh, a_left, a_right, a_up, a_count, a_kind, a_amount, a_isVoid, a_turnBelow, a_voidBelow, a_live, a_netAll, a_netLive, a_add, a_low, a_high, a_spare, a_copyKind, a_copyAmount, a_copyVoid) i).1.2.2) := by
        dsimp only [ls_nv]; simp (disch := omega) only [ls_un, ls_us]
      rw [this, hst]; rfl
    · dsimp only [ls_nv]; simp (disch := omega) only [ls_un]
    · dsimp only [ls_nv]; simp (disch := omega) only [ls_un]
  · refine br_f (nI_ne0 (by omega) (by omega)) ⟨ls_in43 r43, nm_r (e' := upd a_up r (nI y.1)) (by rw [ls_cln (by omega)]) (ls_r86F (u0 := (f_spares, f_root, f_entries, f_cap, f_room, f_accAdd, f_accLow, f_accHigh, a_left, a_right, a_up, a_count, a_kind, a_amount, a_isVoid, a_turnBelow, a_voidBelow, a_live, a_netAll, a_netLive, a_add, a_low, a_high, a_spare, a_copyKind, a_copyAmount, a_copyVoid)) hc hcap' hR ls_scX ls_roX ?_ ?_ (fun hn => ?_) ?_ (fun j j1 j2 j3 => ?_) K)⟩
    · have : (ls_nv (f_spares, f_root, f_entries, f_cap, f_room, f_accAdd, f_accLow, f_accHigh, upd a_left y.1 (nI r), upd a_right i (nI y.1), upd a_up r (nI y.1), a_count, a_kind, a_amount, a_isVoid, a_turnBelow, a_voidBelow, a_live, a_netAll, a_netLive, a_add, a_low, a_high, a_spare, a_copyKind, a_copyAmount, a_copyVoid) y.1).1 = (nI r, (ls_nv (f_spares, f_root, f_entries, f_cap, f_room, f_accAdd, f_accLow, f_accHigh, a_left, a_right, a_up, a_count, a_kind, a_amount, a_isVoid, a_turnBelow, a_voidBelow, a_live, a_netAll, a_netLive, a_add, a_low, a_high, a_spare, a_copyKind, a_copyAmount, a_copyVoid) y.1).1.2) := by
        dsimp only [ls_nv]; simp (disch := omega) only [ls_un, ls_us]
      rw [this, hsp]; rfl
    · have : (ls_nv (f_spares, f_root, f_entries, f_cap, f_room, f_accAdd, f_accLow, f_accHigh, upd a_left y.1 (nI r), upd a_right i (nI y.1), upd a_up r (nI y.1), a_count, a_kind, a_amount, a_isVoid, a_turnBelow, a_voidBelow, a_live, a_netAll, a_netLive, a_add, a_low, a_high, a_spare, a_copyKind, a_copyAmount, a_copyVoid) i).1 = ((ls_nv (f_spares, f_root, f_entries, f_cap, f_room, f_accAdd, f_accLow, f_accHigh, a_left, a_right, a_up, a_count, a_kind, a_amount, a_isVoid, a_turnBelow, a_voidBelow, a_live, a_netAll, a_netLive, a_add, a_low, a_high, a_spare, a_copyKind, a_copyAmount, a_copyVoid) i).1.1, nI y.1, (ls_nv (f_spares, f_root, f_entries, f_cap, f_room, f_accAdd, f_accLow, f_accHigh, a_left, a_right, a_up, a_count, a_kind, a_amount, a_isVoid, a_turnBelow, a_voidBelow, a_live, a_netAll, a_netLive, a_add, a_low, a_high, a_spare, a_copyKind, a_copyAmount, a_copyVoid) i).1.2.2) := by
        dsimp only [ls_nv]; simp (disch := omega) only [ls_un, ls_us]
      rw [this, hst]; rfl
    · dsimp only [ls_nv, ls_uS]; simp (disch := omega) only [ls_un, ls_us]
    · dsimp only [ls_nv]; simp (disch := omega) only [ls_un]
    · dsimp only [ls_nv]; simp (disch := omega) only [ls_un]
theorem ls_r131G {u0 : SX} {cap i l r c : Nat} {A : List ls_It} {x : ls_It} {B : List ls_It} {y : ls_It} {C : List ls_It} {Z : List ls_Fm} {post : SX → Prop} (hc : cap ≤ 60) (hcap : ls_cp (f_spares, f_root, f_entries, f_cap, f_room, f_accAdd, f_accLow, f_accHigh, a_left, a_right, a_up, a_count, a_kind, a_amount, a_isVoid, a_turnBelow, a_voidBelow, a_live, a_netAll, a_netLive, a_add, a_low, a_high, a_spare, a_copyKind, a_copyAmount, a_copyVoid) = nI cap)
    (hR : ls_Rc cap (ls_nv u0) i l r c true A x B y C Z) (hs : ls_sc (f_spares, f_root, f_entries, f_cap, f_room, f_accAdd, f_accLow, f_accHigh, a_left, a_right, a_up, a_count, a_kind, a_amount, a_isVoid, a_turnBelow, a_voidBelow, a_live, a_netAll, a_netLive, a_add, a_low, a_high, a_spare, a_copyKind, a_copyAmount, a_copyVoid) = ls_sc u0) (hro : ls_ro (f_spares, f_root, f_entries, f_cap, f_room, f_accAdd, f_accLow, f_accHigh, a_left, a_right, a_up, a_count, a_kind, a_amount, a_isVoid, a_turnBelow, a_voidBelow, a_live, a_netAll, a_netLive, a_add, a_low, a_high, a_spare, a_copyKind, a_copyAmount, a_copyVoid) = ls_ro u0)
    (H1 : (ls_nv (f_spares, f_root, f_entries, f_cap, f_room, f_accAdd, f_accLow, f_accHigh, a_left, a_right, a_up, a_count, a_kind, a_amount, a_isVoid, a_turnBelow, a_voidBelow, a_live, a_netAll, a_netLive, a_add, a_low, a_high, a_spare, a_copyKind, a_copyAmount, a_copyVoid) y.1).1 = ls_st c l i y false none) (H2 : (ls_nv (f_spares, f_root, f_entries, f_cap, f_room, f_accAdd, f_accLow, f_accHigh, a_left, a_right, a_up, a_count, a_kind, a_amount, a_isVoid, a_turnBelow, a_voidBelow, a_live, a_netAll, a_netLive, a_add, a_low, a_high, a_spare, a_copyKind, a_copyAmount, a_copyVoid) i).1 = ls_st y.1 r (ls_par Z) x false none)
    (H3 : l ≠ 0 → ls_nv (f_spares, f_root, f_entries, f_cap, f_room, f_accAdd, f_accLow, f_accHigh, a_left, a_right, a_up, a_count, a_kind, a_amount, a_isVoid, a_turnBelow, a_voidBelow, a_live, a_netAll, a_netLive, a_add, a_low, a_high, a_spare, a_copyKind, a_copyAmount, a_copyVoid) l = (ls_uS y.1 (ls_nv u0 l).1, (ls_nv u0 l).2)) (H0 : ls_nv (f_spares, f_root, f_entries, f_cap, f_room, f_accAdd, f_accLow, f_accHigh, a_left, a_right, a_up, a_count, a_kind, a_amount, a_isVoid, a_turnBelow, a_voidBelow, a_live, a_netAll, a_netLive, a_add, a_low, a_high, a_spare, a_copyKind, a_copyAmount, a_copyVoid) 0 = ls_nv u0 0)
    (H4 : ∀ j, j ≠ y.1 → j ≠ i → j ≠ l → j ≠ ls_par Z → ls_nv (f_spares, f_root, f_entries, f_cap, f_room, f_accAdd, f_accLow, f_accHigh, a_left, a_right, a_up, a_count, a_kind, a_amount, a_isVoid, a_turnBelow, a_voidBelow, a_live, a_netAll, a_netLive, a_add, a_low, a_high, a_spare, a_copyKind, a_copyAmount, a_copyVoid) j = ls_nv u0 j)
    (H5 : ∀ d w D Z', Z = (d, w, D) :: Z' → ls_nv (f_spares, f_root, f_entries, f_cap, f_room, f_accAdd, f_accLow, f_accHigh, a_left, a_right, a_up, a_count, a_kind, a_amount, a_isVoid, a_turnBelow, a_voidBelow, a_live, a_netAll, a_netLive, a_add, a_low, a_high, a_spare, a_copyKind, a_copyAmount, a_copyVoid) w.1 = (ls_hS d i (ls_nv u0 w.1).1, (ls_nv u0 w.1).2))
    (K : ∀ (u' : SX), ls_sc u' = ls_sc u0 → ls_ro u' = ls_ro u0 → ls_On cap (ls_nv u') i (ls_par Z) y.1 r (C ++ y :: A) x B → ls_C cap (ls_nv u') Z i ((C ++ y :: A) ++ x :: B) → (∀ j, ls_ct j (ls_lq Z ++ ((C ++ y :: A) ++ x :: B) ++ ls_rq Z) = 0 → ls_nv u' j = ls_nv u0 j) → (∀ j, 0 < ls_ct j B → ls_nv u' j = ls_nv u0 j) → post u') : wX_rotate_131 post (nI i) (nI y.1) f_spares f_root f_entries f_cap f_room f_accAdd f_accLow f_accHigh a_left a_right a_up a_count a_kind a_amount a_isVoid a_turnBelow a_voidBelow a_live a_netAll a_netLive a_add a_low a_high a_spare a_copyKind a_copyAmount a_copyVoid := by
  have fA := ls_Rc_A hR
  have fB := ls_Rc_B hR
  have fC := ls_Rc_C hR
  have fZ := ls_Rc_Z hR
  obtain ⟨nip, nli, nlp, nri, nrp, nci, ncp, ngi, ngp, ngr, i0, p0, nlr, nlr'⟩ := ls_Rc_f hR
  obtain ⟨hO, y0, y43, oy, hy, hC, hZ, tc, h0, lA, lB, lC, pZ, hz⟩ := hR
  obtain ⟨o1, o2, o3, o4, o5, o6, o7, o8⟩ := hO
  have oA := ls_T_oks o6
  have oB := ls_T_oks o7
  have oC := ls_T_oks hC
  have To : ls_T cap (ls_nv (f_spares, f_root, f_entries, f_cap, f_room, f_accAdd, f_accLow, f_accHigh, a_left, a_right, a_up, a_count, a_kind, a_amount, a_isVoid, a_turnBelow, a_voidBelow, a_live, a_netAll, a_netLive, a_add, a_low, a_high, a_spare, a_copyKind, a_copyAmount, a_copyVoid)) r i B := ls_T_fr o7 fun j hj => H4 j (fB j hj).2.2.1 (fB j hj).2.1 (fB j hj).2.2.2.1 (fB j hj).2.2.2.2
  have Tn : ls_T cap (ls_nv (f_spares, f_root, f_entries, f_cap, f_room, f_accAdd, f_accLow, f_accHigh, a_left, a_right, a_up, a_count, a_kind, a_amount, a_isVoid, a_turnBelow, a_voidBelow, a_live, a_netAll, a_netLive, a_add, a_low, a_high, a_spare, a_copyKind, a_copyAmount, a_copyVoid)) l y.1 A := by
    refine ls_T_up o6 (fun j => by have := tc j; omega) (fun j hj hn => H4 j (fA j hj).2.2.1 (fA j hj).2.1 hn (fA j hj).2.2.2.2) H3
  have Tc : ls_T cap (ls_nv (f_spares, f_root, f_entries, f_cap, f_room, f_accAdd, f_accLow, f_accHigh, a_left, a_right, a_up, a_count, a_kind, a_amount, a_isVoid, a_turnBelow, a_voidBelow, a_live, a_netAll, a_netLive, a_add, a_low, a_high, a_spare, a_copyKind, a_copyAmount, a_copyVoid)) c y.1 C := ls_T_fr hC fun j hj => H4 j (fC j hj).2.2.1 (fC j hj).2.1 (fC j hj).2.2.2.1 (fC j hj).2.2.2.2.2
  have CZ : ls_C cap (ls_nv (f_spares, f_root, f_entries, f_cap, f_room, f_accAdd, f_accLow, f_accHigh, a_left, a_right, a_up, a_count, a_kind, a_amount, a_isVoid, a_turnBelow, a_voidBelow, a_live, a_netAll, a_netLive, a_add, a_low, a_high, a_spare, a_copyKind, a_copyAmount, a_copyVoid)) Z i ((C ++ y :: A) ++ x :: B) := by
    have q : (C ++ y :: A) ++ x :: B = ls_pl true y C (A ++ x :: B) := by show _ = C ++ y :: (A ++ x :: B); rw [List.append_assoc]; rfl
    rw [q]
    refine ls_C_hole hZ (fun j => by have := tc j; omega) (fun j hj hn => H4 j (fZ j hj).2.2.1 (fZ j hj).2.1 (fZ j hj).2.2.2.1 hn) H5
  have h0' : ls_Ag cap (ls_nv (f_spares, f_root, f_entries, f_cap, f_room, f_accAdd, f_accLow, f_accHigh, a_left, a_right, a_up, a_count, a_kind, a_amount, a_isVoid, a_turnBelow, a_voidBelow, a_live, a_netAll, a_netLive, a_add, a_low, a_high, a_spare, a_copyKind, a_copyAmount, a_copyVoid) 0).2 [] := by rw [H0]; exact h0
  have l43 := ls_T_lt Tn
  have r43 := ls_T_lt To
  have c43 := ls_T_lt Tc
  unfold wX_rotate_131
  refine ls_pull (i := y.1) (p := i) (x := y) (l := c) (r := l) (A := C) (B := A) rfl hc hcap y43 c43 l43 ncp nlp H1 (ls_T_Ag Tc h0') (ls_T_Ag Tn h0') oC oA oy (by omega) (by omega) fun u2 s2 r2 e2 a2 F2 => ?_
  have hcap2 : ls_cp u2 = nI cap := (ls_cp_sc s2).trans hcap
  have Tp2 : ls_T cap (ls_nv u2) y.1 i (C ++ y :: A) := by
    refine ls_On_T (l := c) (r := l) ⟨y0, y43, rfl, oy, e2.trans H1, ls_T_fr Tc fun j hj => F2 j (fC j hj).2.2.1, ls_T_fr Tn fun j hj => F2 j (fA j hj).2.2.1, a2⟩
  have To2 : ls_T cap (ls_nv u2) r i B := ls_T_fr To fun j hj => F2 j (fB j hj).2.2.1
  have h02 : ls_Ag cap (ls_nv u2 0).2 [] := by rw [F2 0 (by omega)]; exact h0'
  have H22 : (ls_nv u2 i).1 = ls_st y.1 r (ls_par Z) x false none := by rw [F2 i nip]; exact H2
  have CZ2 : ls_C cap (ls_nv u2) Z i ((C ++ y :: A) ++ x :: B) := ls_C_fr CZ fun j hj => F2 j (fZ j hj).2.2.1
  have s2' := s2.trans hs
  have r2' := r2.trans hro
  have oPL : ls_oks cap (C ++ y :: A) := ls_T_oks Tp2
  have lPL : (C ++ y :: A).length ≤ 1000 := by rw [List.length_append, List.length_cons]; omega
  obtain ⟨f_spares_2, f_root_2, f_entries_2, f_cap_2, f_room_2, f_accAdd_2, f_accLow_2, f_accHigh_2, a_left_2, a_right_2, a_up_2, a_count_2, a_kind_2, a_amount_2, a_isVoid_2, a_turnBelow_2, a_voidBelow_2, a_live_2, a_netAll_2, a_netLive_2, a_add_2, a_low_2, a_high_2, a_spare_2, a_copyKind_2, a_copyAmount_2, a_copyVoid_2⟩ := u2
  refine ls_pull (i := i) (p := ls_par Z) (x := x) (l := y.1) (r := r) (A := C ++ y :: A) (B := B) rfl hc hcap2 o2 y43 r43 (Ne.symm nip) nri H22 (ls_T_Ag Tp2 h02) (ls_T_Ag To2 h02) oPL oB o4 lPL (by omega) fun u3 s3 r3 e3 a3 F3 => ?_
  have On3 : ls_On cap (ls_nv u3) i (ls_par Z) y.1 r (C ++ y :: A) x B := by
    refine ⟨o1, o2, o3, o4, e3.trans H22, ls_T_fr Tp2 fun j hj => F3 j (fun e => by rw [e, ls_ct_app, ls_ct_cons, if_neg (Ne.symm nip)] at hj; have := tc i; rw [ls_oc_s] at this; omega), ls_T_fr To2 fun j hj => F3 j (fB j hj).2.1, a3⟩
  have CZ3 : ls_C cap (ls_nv u3) Z i ((C ++ y :: A) ++ x :: B) := ls_C_fr CZ2 fun j hj => F3 j (fZ j hj).2.1
  have fr : ∀ j, ls_ct j (ls_lq Z ++ ((C ++ y :: A) ++ x :: B) ++ ls_rq Z) = 0 → ls_nv u3 j = ls_nv u0 j := by
    intro j hj
    have hcj : ls_ct j A = 0 ∧ ls_ct j B = 0 ∧ ls_ct j C = 0 ∧ i ≠ j ∧ y.1 ≠ j ∧ ls_ct j (ls_lq Z) + ls_ct j (ls_rq Z) = 0 := by
      rw [ls_ct_app, ls_ct_app, ls_ct_app, ls_ct_app, ls_ct_cons, ls_ct_cons] at hj
      rw [o3] at hj
      refine ⟨by omega, by omega, by omega, fun e => ?_, fun e => ?_, by omega⟩
      · rw [if_pos e] at hj; omega
      · rw [if_pos e] at hj; omega
    obtain ⟨j1, j2, j3, j4, j5, j6⟩ := hcj
    refine (F3 j (Ne.symm j4)).trans ((F2 j (Ne.symm j5)).trans ?_)
    by_cases e : j = 0
    · rw [e]; exact H0
    · refine H4 j (Ne.symm j5) (Ne.symm j4) (fun z => ?_) (fun z => ?_)
      · have := ls_T_self o6 (by omega); rw [← z] at this; omega
      · rcases hz with q | q
        · omega
        · rw [← z] at q; omega
  have fo : ∀ j, 0 < ls_ct j B → ls_nv u3 j = ls_nv u0 j := fun j hj => (F3 j (fB j hj).2.1).trans ((F2 j (fB j hj).2.2.1).trans (H4 j (fB j hj).2.2.1 (fB j hj).2.1 (fB j hj).2.2.2.1 (fB j hj).2.2.2.2))
  have fin := K u3 (s3.trans s2') (r3.trans r2') On3 CZ3 fr fo
  obtain ⟨f_spares_3, f_root_3, f_entries_3, f_cap_3, f_room_3, f_accAdd_3, f_accLow_3, f_accHigh_3, a_left_3, a_right_3, a_up_3, a_count_3, a_kind_3, a_amount_3, a_isVoid_3, a_turnBelow_3, a_voidBelow_3, a_live_3, a_netAll_3, a_netLive_3, a_add_3, a_low_3, a_high_3, a_spare_3, a_copyKind_3, a_copyAmount_3, a_copyVoid_3⟩ := u3
  exact fin
theorem ls_r86G {u0 : SX} {cap i l r c : Nat} {A : List ls_It} {x : ls_It} {B : List ls_It} {y : ls_It} {C : List ls_It} {Z : List ls_Fm} {post : SX → Prop} (hc : cap ≤ 60) (hcap : ls_cp (f_spares, f_root, f_entries, f_cap, f_room, f_accAdd, f_accLow, f_accHigh, a_left, a_right, a_up, a_count, a_kind, a_amount, a_isVoid, a_turnBelow, a_voidBelow, a_live, a_netAll, a_netLive, a_add, a_low, a_high, a_spare, a_copyKind, a_copyAmount, a_copyVoid) = nI cap)
    (hR : ls_Rc cap (ls_nv u0) i l r c true A x B y C Z) (hs : ls_sc (f_spares, f_root, f_entries, f_cap, f_room, f_accAdd, f_accLow, f_accHigh, a_left, a_right, a_up, a_count, a_kind, a_amount, a_isVoid, a_turnBelow, a_voidBelow, a_live, a_netAll, a_netLive, a_add, a_low, a_high, a_spare, a_copyKind, a_copyAmount, a_copyVoid) = ls_sc u0) (hro : ls_ro (f_spares, f_root, f_entries, f_cap, f_room, f_accAdd, f_accLow, f_accHigh, a_left, a_right, a_up, a_count, a_kind, a_amount, a_isVoid, a_turnBelow, a_voidBelow, a_live, a_netAll, a_netLive, a_add, a_low, a_high, a_spare, a_copyKind, a_copyAmount, a_copyVoid) = ls_ro u0)
    (H1 : (ls_nv (f_spares, f_root, f_entries, f_cap, f_room, f_accAdd, f_accLow, f_accHigh, a_left, a_right, a_up, a_count, a_kind, a_amount, a_isVoid, a_turnBelow, a_voidBelow, a_live, a_netAll, a_netLive, a_add, a_low, a_high, a_spare, a_copyKind, a_copyAmount, a_copyVoid) y.1).1 = ls_st c l (ls_par Z) y false none) (H2 : (ls_nv (f_spares, f_root, f_entries, f_cap, f_room, f_accAdd, f_accLow, f_accHigh, a_left, a_right, a_up, a_count, a_kind, a_amount, a_isVoid, a_turnBelow, a_voidBelow, a_live, a_netAll, a_netLive, a_add, a_low, a_high, a_spare, a_copyKind, a_copyAmount, a_copyVoid) i).1 = ls_st y.1 r y.1 x false none)
    (H3 : l ≠ 0 → ls_nv (f_spares, f_root, f_entries, f_cap, f_room, f_accAdd, f_accLow, f_accHigh, a_left, a_right, a_up, a_count, a_kind, a_amount, a_isVoid, a_turnBelow, a_voidBelow, a_live, a_netAll, a_netLive, a_add, a_low, a_high, a_spare, a_copyKind, a_copyAmount, a_copyVoid) l = (ls_uS y.1 (ls_nv u0 l).1, (ls_nv u0 l).2)) (H0 : ls_nv (f_spares, f_root, f_entries, f_cap, f_room, f_accAdd, f_accLow, f_accHigh, a_left, a_right, a_up, a_count, a_kind, a_amount, a_isVoid, a_turnBelow, a_voidBelow, a_live, a_netAll, a_netLive, a_add, a_low, a_high, a_spare, a_copyKind, a_copyAmount, a_copyVoid) 0 = ls_nv u0 0)
    (H4 : ∀ j, j ≠ y.1 → j ≠ i → j ≠ l → ls_nv (f_spares, f_root, f_entries, f_cap, f_room, f_accAdd, f_accLow, f_accHigh, a_left, a_right, a_up, a_count, a_kind, a_amount, a_isVoid, a_turnBelow, a_voidBelow, a_live, a_netAll, a_netLive, a_add, a_low, a_high, a_spare, a_copyKind, a_copyAmount, a_copyVoid) j = ls_nv u0 j)
    (K : ∀ (u' : SX), ls_sc u' = ls_sc u0 → ls_ro u' = ls_ro u0 → ls_On cap (ls_nv u') i (ls_par Z) y.1 r (C ++ y :: A) x B → ls_C cap (ls_nv u') Z i ((C ++ y :: A) ++ x :: B) → (∀ j, ls_ct j (ls_lq Z ++ ((C ++ y :: A) ++ x :: B) ++ ls_rq Z) = 0 → ls_nv u' j = ls_nv u0 j) → (∀ j, 0 < ls_ct j B → ls_nv u' j = ls_nv u0 j) → post u') : wX_rotate_86 post (nI i) (nI y.1) (nI (ls_par Z)) f_spares f_root f_entries f_cap f_room f_accAdd f_accLow f_accHigh a_left a_right a_up a_count a_kind a_amount a_isVoid a_turnBelow a_voidBelow a_live a_netAll a_netLive a_add a_low a_high a_spare a_copyKind a_copyAmount a_copyVoid := by
  obtain ⟨nip, nli, nlp, nri, nrp, nci, ncp, ngi, ngp, ngr, i0, p0, nlr, nlr'⟩ := ls_Rc_f hR
  have i43 : i < 43 := hR.1.2.1
  have y43 : y.1 < 43 := hR.2.2.1
  have hinp := ls_in43 y43
  have hini := ls_in43 i43
  have cy := ls_cln (n := y.1) (by omega)
  have ci := ls_cln (n := i) (by omega)
  have hZ := hR.2.2.2.2.2.2.1
  have hcap' : f_cap = nI cap := hcap
  unfold wX_rotate_86
  refine ⟨hinp, nm_r (e' := upd a_up y.1 (nI i)) (by rw [cy]) ⟨hini, nm_r (e' := upd (upd a_up y.1 (nI i)) i (nI (ls_par Z))) (by rw [ci]) ?_⟩⟩
  cases Z with
  | nil =>
    have z0 : ls_par [] = 0 := rfl
    refine br_t nI_0 (ls_r131G hc hcap' hR (Eq.trans ls_scX hs) (Eq.trans ls_roX hro) ?_ ?_ (fun hn => ?_) ?_ (fun j j1 j2 j3 j4 => ?_) (fun d w D Z' e => by cases e) K)
    · have : (ls_nv (f_spares, f_root, f_entries, f_cap, f_room, f_accAdd, f_accLow, f_accHigh, a_left, a_right, upd (upd a_up y.1 (nI i)) i (nI (ls_par [])), a_count, a_kind, a_amount, a_isVoid, a_turnBelow, a_voidBelow, a_live, a_netAll, a_netLive, a_add, a_low, a_high, a_spare, a_copyKind, a_copyAmount, a_copyVoid) y.1).1 = ls_uS i (ls_nv (f_spares, f_root, f_entries, f_cap, f_room, f_accAdd, f_accLow, f_accHigh, a_left, a_right, a_up, a_count, a_kind, a_amount, a_isVoid, a_turnBelow, a_voidBelow, a_live, a_netAll, a_netLive, a_add, a_low, a_high, a_spare, a_copyKind, a_copyAmount, a_copyVoid) y.1).1 := by
        dsimp only [ls_nv, ls_uS]; simp (disch := omega) only [ls_un, ls_us]
      exact Eq.trans this (by rw [H1]; rfl)
    · have : (ls_nv (f_spares, f_root, f_entries, f_cap, f_room, f_accAdd, f_accLow, f_accHigh, a_left, a_right, upd (upd a_up y.1 (nI i)) i (nI (ls_par [])), a_count, a_kind, a_amount, a_isVoid, a_turnBelow, a_voidBelow, a_live, a_netAll, a_netLive, a_add, a_low, a_high, a_spare, a_copyKind, a_copyAmount, a_copyVoid) i).1 = ls_uS (ls_par []) (ls_nv (f_spares, f_root, f_entries, f_cap, f_room, f_accAdd, f_accLow, f_accHigh, a_left, a_right, a_up, a_count, a_kind, a_amount, a_isVoid, a_turnBelow, a_voidBelow, a_live, a_netAll, a_netLive, a_add, a_low, a_high, a_spare, a_copyKind, a_copyAmount, a_copyVoid) i).1 := by
        dsimp only [ls_nv, ls_uS]; simp (disch := omega) only [ls_un, ls_us]
      exact Eq.trans this (by rw [H2]; rfl)
    · rw [← H3 hn]; dsimp only [ls_nv]; simp (disch := omega) only [ls_un]
    · rw [← H0]; dsimp only [ls_nv]; simp (disch := omega) only [ls_un]
    · rw [← H4 j j1 j2 j3]; dsimp only [ls_nv]; simp (disch := omega) only [ls_un]
  | cons f Z =>
    obtain ⟨d', w, D⟩ := f
    obtain ⟨cD, w0, w43, ow, hw, hTD, _⟩ := hZ
    have g1 : w.1 ≠ i := ngi
    have g2 : w.1 ≠ y.1 := ngp
    have g3 : w.1 ≠ r := (ngr (by show w.1 ≠ 0; omega)).1
    have g4 : w.1 ≠ l := (ngr (by show w.1 ≠ 0; omega)).2
    have hinw := ls_in43 w43
    have cw := ls_cln (n := w.1) (by omega)
    have Hw := H4 w.1 g2 g1 g4
    have wl : a_left w.1 = (ls_nv u0 w.1).1.1 := congrArg (fun z => z.1.1) Hw
    refine br_f (nI_ne0 (n := w.1) w0 (by omega)) ⟨hinw, ?_⟩
    cases d' with
    | false =>
      have e : a_left (nI w.1).toNatClampNeg = nI y.1 := by rw [cw, wl, hw]; rfl
      refine br_t e ⟨hinw, nm_r (e' := upd a_left w.1 (nI i)) (by show upd a_left (nI w.1).toNatClampNeg _ = _; rw [cw]) (ls_r131G hc hcap' hR (Eq.trans ls_scX hs) (Eq.trans ls_roX hro) ?_ ?_ (fun hn => ?_) ?_ (fun j j1 j2 j3 j4 => ?_) (fun d w' D' Z' e => ?_) K)⟩
      · have : (ls_nv (f_spares, f_root, f_entries, f_cap, f_room, f_accAdd, f_accLow, f_accHigh, upd a_left w.1 (nI i), a_right, upd (upd a_up y.1 (nI i)) i (nI w.1), a_count, a_kind, a_amount, a_isVoid, a_turnBelow, a_voidBelow, a_live, a_netAll, a_netLive, a_add, a_low, a_high, a_spare, a_copyKind, a_copyAmount, a_copyVoid) y.1).1 = ls_uS i (ls_nv (f_spares, f_root, f_entries, f_cap, f_room, f_accAdd, f_accLow, f_accHigh, a_left, a_right, a_up, a_count, a_kind, a_amount, a_isVoid, a_turnBelow, a_voidBelow, a_live, a_netAll, a_netLive, a_add, a_low, a_high, a_spare, a_copyKind, a_copyAmount, a_copyVoid) y.1).1 := by
          dsimp only [ls_nv, ls_uS]; simp (disch := omega) only [ls_un, ls_us]
        exact Eq.trans this (by rw [H1]; rfl)
      · have : (ls_nv (f_spares, f_root, f_entries, f_cap, f_room, f_accAdd, f_accLow, f_accHigh, upd a_left w.1 (nI i), a_right, upd (upd a_up y.1 (nI i)) i (nI w.1), a_count, a_kind, a_amount, a_isVoid, a_turnBelow, a_voidBelow, a_live, a_netAll, a_netLive, a_add, a_low, a_high, a_spare, a_copyKind, a_copyAmount, a_copyVoid) i).1 = ls_uS w.1 (ls_nv (f_spares, f_root, f_entries, f_cap, f_room, f_accAdd, f_accLow, f_accHigh, a_left, a_right, a_up, a_count, a_kind, a_amount, a_isVoid, a_turnBelow, a_voidBelow, a_live, a_netAll, a_netLive, a_add, a_low, a_high, a_spare, a_copyKind, a_copyAmount, a_copyVoid) i).1 := by
          dsimp only [ls_nv, ls_uS]; simp (disch := omega) only [ls_un, ls_us]
        exact Eq.trans this (by rw [H2]; rfl)
      · rw [← H3 hn]; dsimp only [ls_nv]; simp (disch := omega) only [ls_un]
      · rw [← H0]; dsimp only [ls_nv]; simp (disch := omega) only [ls_un]
      · have j4' : j ≠ w.1 := j4
        rw [← H4 j j1 j2 j3]; dsimp only [ls_nv]; simp (disch := omega) only [ls_un]
      · obtain ⟨e1, e2⟩ := List.cons.inj e
        cases e1
        rw [← Hw]; dsimp only [ls_nv, ls_hS]; simp (disch := omega) only [ls_un, ls_us]; rfl
    | true =>
      have e : ¬ a_left (nI w.1).toNatClampNeg = nI y.1 := by
        have q : a_left (nI w.1).toNatClampNeg = nI cD := by rw [cw, wl, hw]; rfl
        rw [q]
        intro z
        have cD43 := ls_T_lt hTD
        have z' : cD = y.1 := (nI_eq (by omega) (by omega)).mp z
        have t := hR.2.2.2.2.2.2.2.1 y.1
        rw [ls_oc_s] at t
        have m := ls_T_self hTD (by omega)
        rw [z'] at m
        have v := ls_ct_q (j := y.1) (d := true) (y := w) (C := D) (Z := Z)
        omega
      refine br_f e ⟨hinw, nm_r (e' := upd a_right w.1 (nI i)) (by show upd a_right (nI w.1).toNatClampNeg _ = _; rw [cw]) (ls_r131G hc hcap' hR (Eq.trans ls_scX hs) (Eq.trans ls_roX hro) ?_ ?_ (fun hn => ?_) ?_ (fun j j1 j2 j3 j4 => ?_) (fun d w' D' Z' e => ?_) K)⟩
      · have : (ls_nv (f_spares, f_root, f_entries, f_cap, f_room, f_accAdd, f_accLow, f_accHigh, a_left, upd a_right w.1 (nI i), upd (upd a_up y.1 (nI i)) i (nI w.1), a_count, a_kind, a_amount, a_isVoid, a_turnBelow, a_voidBelow, a_live, a_netAll, a_netLive, a_add, a_low, a_high, a_spare, a_copyKind, a_copyAmount, a_copyVoid) y.1).1 = ls_uS i (ls_nv (f_spares, f_root, f_entries, f_cap, f_room, f_accAdd, f_accLow, f_accHigh, a_left, a_right, a_up, a_count, a_kind, a_amount, a_isVoid, a_turnBelow, a_voidBelow, a_live, a_netAll, a_netLive, a_add, a_low, a_high, a_spare, a_copyKind, a_copyAmount, a_copyVoid) y.1).1 := by
          dsimp only [ls_nv, ls_uS]; simp (disch := omega) only [ls_un, ls_us]
        exact Eq.trans this (by rw [H1]; rfl)
      · have : (ls_nv (f_spares, f_root, f_entries, f_cap, f_room, f_accAdd, f_accLow, f_accHigh, a_left, upd a_right w.1 (nI i), upd (upd a_up y.1 (nI i)) i (nI w.1), a_count, a_kind, a_amount, a_isVoid, a_turnBelow, a_voidBelow, a_live, a_netAll, a_netLive, a_add, a_low, a_high, a_spare, a_copyKind, a_copyAmount, a_copyVoid) i).1 = ls_uS w.1 (ls_nv (f_spares, f_root, f_entries, f_cap, f_room, f_accAdd, f_accLow, f_accHigh, a_left, a_right, a_up, a_count, a_kind, a_amount, a_isVoid, a_turnBelow, a_voidBelow, a_live, a_netAll, a_netLive, a_add, a_low, a_high, a_spare, a_copyKind, a_copyAmount, a_copyVoid) i).1 := by
          dsimp only [ls_nv, ls_uS]; simp (disch := omega) only [ls_un, ls_us]
        exact Eq.trans this (by rw [H2]; rfl)
      · rw [← H3 hn]; dsimp only [ls_nv]; simp (disch := omega) only [ls_un]
      · rw [← H0]; dsimp only [ls_nv]; simp (disch := omega) only [ls_un]
      · have j4' : j ≠ w.1 := j4
        rw [← H4 j j1 j2 j3]; dsimp only [ls_nv]; simp (disch := omega) only [ls_un]
      · obtain ⟨e1, e2⟩ := List.cons.inj e
        cases e1
        rw [← Hw]; dsimp only [ls_nv, ls_hS]; simp (disch := omega) only [ls_un, ls_us]; rfl
theorem ls_rotG {u : SX} {cap i l r c : Nat} {A : List ls_It} {x : ls_It} {B : List ls_It} {y : ls_It} {C : List ls_It} {Z : List ls_Fm} {q : Int32} {post : SX → Prop} (hq : q = nI i) (hc : cap ≤ 60) (hcap : ls_cp u = nI cap)
    (hR : ls_Rc cap (ls_nv u) i l r c true A x B y C Z)
    (K : ∀ (u' : SX), ls_sc u' = ls_sc u → ls_ro u' = ls_ro u → ls_On cap (ls_nv u') i (ls_par Z) y.1 r (C ++ y :: A) x B → ls_C cap (ls_nv u') Z i ((C ++ y :: A) ++ x :: B) → (∀ j, ls_ct j (ls_lq Z ++ ((C ++ y :: A) ++ x :: B) ++ ls_rq Z) = 0 → ls_nv u' j = ls_nv u j) → (∀ j, 0 < ls_ct j B → ls_nv u' j = ls_nv u j) → post u') : wpX_rotate post u q := by
  subst hq
  obtain ⟨nip, nli, nlp, nri, nrp, nci, ncp, ngi, ngp, ngr, i0, p0, nlr, nlr'⟩ := ls_Rc_f hR
  have i43 : i < 43 := hR.1.2.1
  have y43 : y.1 < 43 := hR.2.2.1
  have hinp := ls_in43 y43
  have hini := ls_in43 i43
  have cy := ls_cln (n := y.1) (by omega)
  have ci := ls_cln (n := i) (by omega)
  have hst := hR.1.2.2.2.2.1
  have hsp := hR.2.2.2.2.1
  have l43 : l < 43 := ls_T_lt hR.1.2.2.2.2.2.1
  have c43 : c < 43 := ls_T_lt hR.2.2.2.2.2.1
  obtain ⟨f_spares, f_root, f_entries, f_cap, f_room, f_accAdd, f_accLow, f_accHigh, a_left, a_right, a_up, a_count, a_kind, a_amount, a_isVoid, a_turnBelow, a_voidBelow, a_live, a_netAll, a_netLive, a_add, a_low, a_high, a_spare, a_copyKind, a_copyAmount, a_copyVoid⟩ := u
  have eu : a_up i = nI y.1 := congrArg (fun z => z.2.2.1) hst
  have eup : a_up y.1 = nI (ls_par Z) := congrArg (fun z => z.2.2.1) hsp
  have epl : a_left y.1 = nI c := congrArg (fun z => z.1) hsp
  have en : a_left i = nI l := congrArg (fun z => z.1) hst
  have hcap' : f_cap = nI cap := hcap
  unfold wpX_rotate
  refine ⟨hini, nm_r (e' := nI y.1) (by rw [ci]; exact eu) ⟨hinp, nm_r (e' := nI (ls_par Z)) (by rw [cy]; exact eup) ⟨hinp, br_f (by rw [cy, epl]; intro z; exact nci ((nI_eq (by omega) (by omega)).mp z)) ⟨hini, nm_r (e' := nI l) (by rw [ci]; exact en) ⟨hinp, nm_r (e' := upd a_right y.1 (nI l)) (by rw [cy]) ⟨hini, nm_r (e' := upd a_left i (nI y.1)) (by rw [ci]) ?_⟩⟩⟩⟩⟩⟩
  unfold wX_rotate_73
  by_cases n0 : l = 0
  · refine br_t (by rw [n0]; exact nI_0) (ls_r86G (u0 := (f_spares, f_root, f_entries, f_cap, f_room, f_accAdd, f_accLow, f_accHigh, a_left, a_right, a_up, a_count, a_kind, a_amount, a_isVoid, a_turnBelow, a_voidBelow, a_live, a_netAll, a_netLive, a_add, a_low, a_high, a_spare, a_copyKind, a_copyAmount, a_copyVoid)) hc hcap' hR ls_scX ls_roX ?_ ?_ (fun hn => absurd n0 hn) ?_ (fun j j1 j2 j3 => ?_) K)
    · have : (ls_nv (f_spares, f_root, f_entries, f_cap, f_room, f_accAdd, f_accLow, f_accHigh, upd a_left i (nI y.1), upd a_right y.1 (nI l), a_up, a_count, a_kind, a_amount, a_isVoid, a_turnBelow, a_voidBelow, a_live, a_netAll, a_netLive, a_add, a_low, a_high, a_spare, a_copyKind, a_copyAmount, a_copyVoid) y.1).1 = ((ls_nv (f_spares, f_root, f_entries, f_cap, f_room, f_accAdd, f_accLow, f_accHigh, a_left, a_right, a_up, a_count, a_kind, a_amount, a_isVoid, a_turnBelow, a_voidBelow, a_live, a_netAll, a_netLive, a_add, a_low, a_high, a_spare, a_copyKind, a_copyAmount, a_copyVoid) y.1).1.1, nI l, (ls_nv (f_spares, f_root, f_entries, f_cap, f_room, f_accAdd, f_accLow, f_accHigh, a_left, a_right, a_up, a_count, a_kind, a_amount, a_isVoid, a_turnBelow, a_voidBelow, a_live, a_netAll, a_netLive, a_add, a_low, a_high, a_spare, a_copyKind, a_copyAmount, a_copyVoid) y.1).1.2.2) := by
        dsimp only [ls_nv]; simp (disch := omega) only [ls_un, ls_us]
      rw [this, hsp]; rfl
    · have : (ls_nv (f_spares, f_root, f_entries, f_cap, f_room, f_accAdd, f_accLow, f_accHigh, upd a_left i (nI y.1), upd a_right y.1 (nI l), a_up, a_count, a_kind, a_amount, a_isVoid, a_turnBelow, a_voidBelow, a_live, a_netAll, a_netLive, a_add, a_low, a_high, a_spare, a_copyKind, a_copyAmount, a_copyVoid) i).1 = (nI y.1, (ls_nv (f_spares, f_root, f_entries, f_cap, f_room, f_accAdd, f_accLow, f_accHigh, a_left, a_right, a_up, a_count, a_kind, a_amount, a_isVoid, a_turnBelow, a_voidBelow, a_live, a_netAll, a_netLive, a_add, a_low, a_high, a_spare, a_copyKind, a_copyAmount, a_copyVoid) i).1.2) := by
        dsimp only [ls_nv]; simp (disch := omega) only [ls_un, ls_us]
      rw [this, hst]; rfl
    · dsimp only [ls_nv]; simp (disch := omega) only [ls_un]
    · dsimp only [ls_nv]; simp (disch := omega) only [ls_un]
  · refine br_f (nI_ne0 (by omega) (by omega)) ⟨ls_in43 l43, nm_r (e' := upd a_up l (nI y.1)) (by rw [ls_cln (by omega)]) (ls_r86G (u0 := (f_spares, f_root, f_entries, f_cap, f_room, f_accAdd, f_accLow, f_accHigh, a_left, a_right, a_up, a_count, a_kind, a_amount, a_isVoid, a_turnBelow, a_voidBelow, a_live, a_netAll, a_netLive, a_add, a_low, a_high, a_spare, a_copyKind, a_copyAmount, a_copyVoid)) hc hcap' hR ls_scX ls_roX ?_ ?_ (fun hn => ?_) ?_ (fun j j1 j2 j3 => ?_) K)⟩
    · have : (ls_nv (f_spares, f_root, f_entries, f_cap, f_room, f_accAdd, f_accLow, f_accHigh, upd a_left i (nI y.1), upd a_right y.1 (nI l), upd a_up l (nI y.1), a_count, a_kind, a_amount, a_isVoid, a_turnBelow, a_voidBelow, a_live, a_netAll, a_netLive, a_add, a_low, a_high, a_spare, a_copyKind, a_copyAmount, a_copyVoid) y.1).1 = ((ls_nv (f_spares, f_root, f_entries, f_cap, f_room, f_accAdd, f_accLow, f_accHigh, a_left, a_right, a_up, a_count, a_kind, a_amount, a_isVoid, a_turnBelow, a_voidBelow, a_live, a_netAll, a_netLive, a_add, a_low, a_high, a_spare, a_copyKind, a_copyAmount, a_copyVoid) y.1).1.1, nI l, (ls_nv (f_spares, f_root, f_entries, f_cap, f_room, f_accAdd, f_accLow, f_accHigh, a_left, a_right, a_up, a_count, a_kind, a_amount, a_isVoid, a_turnBelow, a_voidBelow, a_live, a_netAll, a_netLive, a_add, a_low, a_high, a_spare, a_copyKind, a_copyAmount, a_copyVoid) y.1).1.2.2) := by
        dsimp only [ls_nv]; simp (disch := omega) only [ls_un, ls_us]
      rw [this, hsp]; rfl
    · have : (ls_nv (f_spares, f_root, f_entries, f_cap, f_room, f_accAdd, f_accLow, f_accHigh, upd a_left i (nI y.1), upd a_right y.1 (nI l), upd a_up l (nI y.1), a_count, a_kind, a_amount, a_isVoid, a_turnBelow, a_voidBelow, a_live, a_netAll, a_netLive, a_add, a_low, a_high, a_spare, a_copyKind, a_copyAmount, a_copyVoid) i).1 = (nI y.1, (ls_nv (f_spares, f_root, f_entries, f_cap, f_room, f_accAdd, f_accLow, f_accHigh, a_left, a_right, a_up, a_count, a_kind, a_amount, a_isVoid, a_turnBelow, a_voidBelow, a_live, a_netAll, a_netLive, a_add, a_low, a_high, a_spare, a_copyKind, a_copyAmount, a_copyVoid) i).1.2) := by
        dsimp only [ls_nv]; simp (disch := omega) only [ls_un, ls_us]
      rw [this, hst]; rfl
    · dsimp only [ls_nv, ls_uS]; simp (disch := omega) only [ls_un, ls_us]
    · dsimp only [ls_nv]; simp (disch := omega) only [ls_un]
    · dsimp only [ls_nv]; simp (disch := omega) only [ls_un]
end
end
section
/-! lift -/
/-- the node i, open, on the way Z, with all that stands left of it and right of it -/
def ls_Lv (cap : Nat) (g : Nat → ls_ND) (i : Nat) (Z : List ls_Fm) (l r : Nat) (A : List ls_It) (x : ls_It) (B P Q : List ls_It) : Prop :=
  ls_On cap g i (ls_par Z) l r A x B ∧ ls_C cap g Z i (A ++ x :: B) ∧ ls_lq Z ++ A = P ∧ B ++ ls_rq Z = Q
theorem ls_full2 {Z : List ls_Fm} {A B : List ls_It} {x : ls_It} : ls_lq Z ++ (A ++ x :: B) ++ ls_rq Z = (ls_lq Z ++ A) ++ x :: (B ++ ls_rq Z) := by
  simp only [List.append_assoc, List.cons_append]
section
variable {cap i l r : Nat} {A : List ls_It} {x : ls_It} {B P Q : List ls_It} {y : ls_It} {C : List ls_It} {Z : List ls_Fm} {d : Bool}
theorem ls_rotL {u : SX} {q : Int32} {post : SX → Prop} (hq : q = nI i) (hc : cap ≤ 60) (hcap : ls_cp u = nI cap) (h0 : ls_Ag cap (ls_nv u 0).2 [])
    (hL : ls_Lv cap (ls_nv u) i ((d, y, C) :: Z) l r A x B P Q) (hu : ls_u1 (P ++ x :: Q)) (hlen : (P ++ x :: Q).length ≤ 300)
    (K : ∀ (u' : SX) (l' r' : Nat) (A' B' : List ls_It), ls_sc u' = ls_sc u → ls_ro u' = ls_ro u → ls_Lv cap (ls_nv u') i Z l' r' A' x B' P Q → (∀ j, ls_ct j (P ++ x :: Q) = 0 → ls_nv u' j = ls_nv u j) → post u') :
    wpX_rotate post u q := by
  obtain ⟨hO, hC, hP, hQ⟩ := hL
  subst hP; subst hQ
  rw [← ls_full2] at hu hlen
  obtain ⟨c, hR⟩ := ls_Rc_mk hO hC hu h0 hlen
  cases d with
  | false =>
    refine ls_rotF hq hc hcap hR fun u' s1 r1 O1 C1 F1 _ => K u' _ _ _ _ s1 r1 ⟨O1, C1, rfl, ?_⟩ fun j hj => F1 j ?_
    · show B ++ y :: C ++ ls_rq Z = B ++ ((y :: C) ++ ls_rq Z)
      rw [List.append_assoc]
    · rw [← ls_full2, ls_full] at hj
      have e : A ++ x :: (B ++ y :: C) = ls_pl false y C (A ++ x :: B) := by show _ = (A ++ x :: B) ++ y :: C; rw [List.append_assoc]; rfl
      rw [e]; exact hj
  | true =>
    refine ls_rotG hq hc hcap hR fun u' s1 r1 O1 C1 F1 _ => K u' _ _ _ _ s1 r1 ⟨O1, C1, ?_, rfl⟩ fun j hj => F1 j ?_
    · show ls_lq Z ++ (C ++ y :: A) = (ls_lq Z ++ (C ++ [y])) ++ A
      simp only [List.append_assoc, List.cons_append, List.nil_append]
    · rw [← ls_full2, ls_full] at hj
      have e : (C ++ y :: A) ++ x :: B = ls_pl true y C (A ++ x :: B) := by show _ = C ++ y :: (A ++ x :: B); rw [List.append_assoc]; rfl
      rw [e]; exact hj
theorem ls_zz {u : SX} {w : ls_It} {D : List ls_It} {q : Int32} {post : SX → Prop} (hq : q = nI y.1) (hc : cap ≤ 60) (hcap : ls_cp u = nI cap) (h0 : ls_Ag cap (ls_nv u 0).2 [])
    (hL : ls_Lv cap (ls_nv u) i ((d, y, C) :: (d, w, D) :: Z) l r A x B P Q) (hu : ls_u1 (P ++ x :: Q)) (hlen : (P ++ x :: Q).length ≤ 300)
    (K : ∀ (u' : SX) (C' : List ls_It), ls_sc u' = ls_sc u → ls_ro u' = ls_ro u → ls_Lv cap (ls_nv u') i ((d, y, C') :: Z) l r A x B P Q → (∀ j, ls_ct j (P ++ x :: Q) = 0 → ls_nv u' j = ls_nv u j) → post u') :
    wpX_rotate post u q := by
  obtain ⟨hO, hC, hP, hQ⟩ := hL
  subst hP; subst hQ
  rw [← ls_full2, ls_full] at hu hlen
  have hT := ls_On_T hO
  obtain ⟨c, h1, h2, h3, h4, h5, h6, h7⟩ := hC
  cases d with
  | false =>
    have hOp : ls_On cap (ls_nv u) y.1 w.1 i c (A ++ x :: B) y C := ⟨h1, h2, rfl, h3, h4, hT, h5, h6⟩
    obtain ⟨c', hR⟩ := ls_Rc_mk hOp h7 hu h0 hlen
    refine ls_rotF hq hc hcap hR fun u' s1 r1 O1 C1 F1 fo => K u' (C ++ w :: D) s1 r1 ⟨ls_On_fr hO fo, ls_C_l O1 C1, rfl, ?_⟩ fun j hj => F1 j ?_
    · show B ++ ((y :: (C ++ w :: D)) ++ ls_rq Z) = B ++ ((y :: C) ++ ((w :: D) ++ ls_rq Z))
      simp only [List.append_assoc, List.cons_append]
    · rw [← ls_full2, ls_full, ls_full] at hj
      have e : (A ++ x :: B) ++ y :: (C ++ w :: D) = ls_pl false w D (ls_pl false y C (A ++ x :: B)) := by
        show _ = ((A ++ x :: B) ++ y :: C) ++ w :: D
        simp only [List.append_assoc, List.cons_append]
      rw [e]; exact hj
  | true =>
    have hOp : ls_On cap (ls_nv u) y.1 w.1 c i C y (A ++ x :: B) := ⟨h1, h2, rfl, h3, h4, h5, hT, h6⟩
    obtain ⟨c', hR⟩ := ls_Rc_mk hOp h7 hu h0 hlen
    refine ls_rotG hq hc hcap hR fun u' s1 r1 O1 C1 F1 fo => K u' (D ++ w :: C) s1 r1 ⟨ls_On_fr hO fo, ls_C_r O1 C1, ?_, rfl⟩ fun j hj => F1 j ?_
    · show (ls_lq Z ++ ((D ++ w :: C) ++ [y])) ++ A = ((ls_lq Z ++ (D ++ [w])) ++ (C ++ [y])) ++ A
      simp only [List.append_assoc, List.cons_append, List.nil_append]
    · rw [← ls_full2, ls_full, ls_full] at hj
      have e : (D ++ w :: C) ++ y :: (A ++ x :: B) = ls_pl true w D (ls_pl true y C (A ++ x :: B)) := by
        show _ = D ++ w :: (C ++ y :: (A ++ x :: B))
        simp only [List.append_assoc, List.cons_append]
      rw [e]; exact hj
end
def ls_lf (post : SX → Prop) (x1 x2 : Int32) (n : Nat) (x3 : Int32) (u : SX) : Prop := match u with
  | (f_spares, f_root, f_entries, f_cap, f_room, f_accAdd, f_accLow, f_accHigh, a_left, a_right, a_up, a_count, a_kind, a_amount, a_isVoid, a_turnBelow, a_voidBelow, a_live, a_netAll, a_netLive, a_add, a_low, a_high, a_spare, a_copyKind, a_copyAmount, a_copyVoid) => wX_lift_2 post x1 x2 n x3 f_spares f_root f_entries f_cap f_room f_accAdd f_accLow f_accHigh a_left a_right a_up a_count a_kind a_amount a_isVoid a_turnBelow a_voidBelow a_live a_netAll a_netLive a_add a_low a_high a_spare a_copyKind a_copyAmount a_copyVoid
theorem ls_ct_zz {j : Nat} : ∀ {Z1 Z2 : List ls_Fm}, ls_ct j (ls_lq (Z1 ++ Z2)) + ls_ct j (ls_rq (Z1 ++ Z2)) = (ls_ct j (ls_lq Z1) + ls_ct j (ls_rq Z1)) + (ls_ct j (ls_lq Z2) + ls_ct j (ls_rq Z2))
  | [], Z2 => by show _ = (0 + 0) + _; rw [List.nil_append]; omega
  | (d, y, C) :: Z1, Z2 => by
    have := ls_ct_zz (j := j) (Z1 := Z1) (Z2 := Z2)
    rw [List.cons_append, ls_ct_q, ls_ct_q]; omega
section
variable {f_spares f_root f_entries f_cap f_room f_accAdd f_accLow f_accHigh : Int32} {a_left a_right a_up a_count a_kind a_amount a_isVoid a_turnBelow a_voidBelow a_live a_netAll a_netLive a_add a_low a_high a_spare a_copyKind a_copyAmount a_copyVoid : Nat → Int32}
variable {cap i l r top : Nat} {A : List ls_It} {x : ls_It} {B P Q : List ls_It} {y : ls_It} {C : List ls_It} {Z : List ls_Fm} {d : Bool}
theorem ls_98 {n c : Nat} {post : SX → Prop} (hc : cap ≤ 60) (hcap : ls_cp (f_spares, f_root, f_entries, f_cap, f_room, f_accAdd, f_accLow, f_accHigh, a_left, a_right, a_up, a_count, a_kind, a_amount, a_isVoid, a_turnBelow, a_voidBelow, a_live, a_netAll, a_netLive, a_add, a_low, a_high, a_spare, a_copyKind, a_copyAmount, a_copyVoid) = nI cap) (h0 : ls_Ag cap (ls_nv (f_spares, f_root, f_entries, f_cap, f_room, f_accAdd, f_accLow, f_accHigh, a_left, a_right, a_up, a_count, a_kind, a_amount, a_isVoid, a_turnBelow, a_voidBelow, a_live, a_netAll, a_netLive, a_add, a_low, a_high, a_spare, a_copyKind, a_copyAmount, a_copyVoid) 0).2 [])
    (hL : ls_Lv cap (ls_nv (f_spares, f_root, f_entries, f_cap, f_room, f_accAdd, f_accLow, f_accHigh, a_left, a_right, a_up, a_count, a_kind, a_amount, a_isVoid, a_turnBelow, a_voidBelow, a_live, a_netAll, a_netLive, a_add, a_low, a_high, a_spare, a_copyKind, a_copyAmount, a_copyVoid)) i ((d, y, C) :: Z) l r A x B P Q) (hu : ls_u1 (P ++ x :: Q)) (hlen : (P ++ x :: Q).length ≤ 300)
    (K : ∀ (u' : SX) (l' r' : Nat) (A' B' : List ls_It), ls_sc u' = ls_sc (f_spares, f_root, f_entries, f_cap, f_room, f_accAdd, f_accLow, f_accHigh, a_left, a_right, a_up, a_count, a_kind, a_amount, a_isVoid, a_turnBelow, a_voidBelow, a_live, a_netAll, a_netLive, a_add, a_low, a_high, a_spare, a_copyKind, a_copyAmount, a_copyVoid) → ls_ro u' = ls_ro (f_spares, f_root, f_entries, f_cap, f_room, f_accAdd, f_accLow, f_accHigh, a_left, a_right, a_up, a_count, a_kind, a_amount, a_isVoid, a_turnBelow, a_voidBelow, a_live, a_netAll, a_netLive, a_add, a_low, a_high, a_spare, a_copyKind, a_copyAmount, a_copyVoid) → ls_Lv cap (ls_nv u') i Z l' r' A' x B' P Q → (∀ j, ls_ct j (P ++ x :: Q) = 0 → ls_nv u' j = ls_nv (f_spares, f_root, f_entries, f_cap, f_room, f_accAdd, f_accLow, f_accHigh, a_left, a_right, a_up, a_count, a_kind, a_amount, a_isVoid, a_turnBelow, a_voidBelow, a_live, a_netAll, a_netLive, a_add, a_low, a_high, a_spare, a_copyKind, a_copyAmount, a_copyVoid) j) →
      ls_lf post (nI i) (nI top) n (nI (c + 1)) u') :
    wX_lift_98 post (wX_lift_2 post (nI i) (nI top) n) (nI i) (nI top) (nI c) f_spares f_root f_entries f_cap f_room f_accAdd f_accLow f_accHigh a_left a_right a_up a_count a_kind a_amount a_isVoid a_turnBelow a_voidBelow a_live a_netAll a_netLive a_add a_low a_high a_spare a_copyKind a_copyAmount a_copyVoid := by
  unfold wX_lift_98
  refine ls_rotL rfl hc hcap h0 hL hu hlen fun u' l' r' A' B' s1 r1 L1 F1 => ?_
  have k := K u' l' r' A' B' s1 r1 L1 F1
  obtain ⟨f_spares_1, f_root_1, f_entries_1, f_cap_1, f_room_1, f_accAdd_1, f_accLow_1, f_accHigh_1, a_left_1, a_right_1, a_up_1, a_count_1, a_kind_1, a_amount_1, a_isVoid_1, a_turnBelow_1, a_voidBelow_1, a_live_1, a_netAll_1, a_netLive_1, a_add_1, a_low_1, a_high_1, a_spare_1, a_copyKind_1, a_copyAmount_1, a_copyVoid_1⟩ := u'
  exact nm_r (e' := nI (c + 1)) (nI_1 c) k
/-- two steps up -/
theorem ls_57 {n c : Nat} {d' : Bool} {w : ls_It} {D : List ls_It} {z : Int32} {post : SX → Prop} (hz : z = ls_b (!d')) (hc : cap ≤ 60) (hcap : ls_cp (f_spares, f_root, f_entries, f_cap, f_room, f_accAdd, f_accLow, f_accHigh, a_left, a_right, a_up, a_count, a_kind, a_amount, a_isVoid, a_turnBelow, a_voidBelow, a_live, a_netAll, a_netLive, a_add, a_low, a_high, a_spare, a_copyKind, a_copyAmount, a_copyVoid) = nI cap) (h0 : ls_Ag cap (ls_nv (f_spares, f_root, f_entries, f_cap, f_room, f_accAdd, f_accLow, f_accHigh, a_left, a_right, a_up, a_count, a_kind, a_amount, a_isVoid, a_turnBelow, a_voidBelow, a_live, a_netAll, a_netLive, a_add, a_low, a_high, a_spare, a_copyKind, a_copyAmount, a_copyVoid) 0).2 [])
    (hL : ls_Lv cap (ls_nv (f_spares, f_root, f_entries, f_cap, f_room, f_accAdd, f_accLow, f_accHigh, a_left, a_right, a_up, a_count, a_kind, a_amount, a_isVoid, a_turnBelow, a_voidBelow, a_live, a_netAll, a_netLive, a_add, a_low, a_high, a_spare, a_copyKind, a_copyAmount, a_copyVoid)) i ((d, y, C) :: (d', w, D) :: Z) l r A x B P Q) (hu : ls_u1 (P ++ x :: Q)) (hlen : (P ++ x :: Q).length ≤ 300)
    (K : ∀ (u' : SX) (l' r' : Nat) (A' B' : List ls_It), ls_sc u' = ls_sc (f_spares, f_root, f_entries, f_cap, f_room, f_accAdd, f_accLow, f_accHigh, a_left, a_right, a_up, a_count, a_kind, a_amount, a_isVoid, a_turnBelow, a_voidBelow, a_live, a_netAll, a_netLive, a_add, a_low, a_high, a_spare, a_copyKind, a_copyAmount, a_copyVoid) → ls_ro u' = ls_ro (f_spares, f_root, f_entries, f_cap, f_room, f_accAdd, f_accLow, f_accHigh, a_left, a_right, a_up, a_count, a_kind, a_amount, a_isVoid, a_turnBelow, a_voidBelow, a_live, a_netAll, a_netLive, a_add, a_low, a_high, a_spare, a_copyKind, a_copyAmount, a_copyVoid) → ls_Lv cap (ls_nv u') i Z l' r' A' x B' P Q → (∀ j, ls_ct j (P ++ x :: Q) = 0 → ls_nv u' j = ls_nv (f_spares, f_root, f_entries, f_cap, f_room, f_accAdd, f_accLow, f_accHigh, a_left, a_right, a_up, a_count, a_kind, a_amount, a_isVoid, a_turnBelow, a_voidBelow, a_live, a_netAll, a_netLive, a_add, a_low, a_high, a_spare, a_copyKind, a_copyAmount, a_copyVoid) j) →
      ls_lf post (nI i) (nI top) n (nI (c + 1)) u') :
    wX_lift_57 post (wX_lift_2 post (nI i) (nI top) n) (nI i) (nI top) (nI c) (nI y.1) z f_spares f_root f_entries f_cap f_room f_accAdd f_accLow f_accHigh a_left a_right a_up a_count a_kind a_amount a_isVoid a_turnBelow a_voidBelow a_live a_netAll a_netLive a_add a_low a_high a_spare a_copyKind a_copyAmount a_copyVoid := by
  obtain ⟨hO, hC, hP, hQ⟩ := id hL
  obtain ⟨c1, h1, h2, h3, h4, h5, h6, h7⟩ := hC
  have hi43 := hO.2.1
  have hin := ls_in43 h2
  have cy := ls_cln (n := y.1) (by omega)
  have z0 : ls_ct 0 (P ++ x :: Q) = 0 := by
    rcases Nat.eq_zero_or_pos (ls_ct 0 (P ++ x :: Q)) with h | h
    · exact h
    · rw [← hP, ← hQ, ← ls_full2, ls_ct_app, ls_ct_app] at h
      by_cases g : 0 < ls_ct 0 (A ++ x :: B)
      · have := ls_T_in (ls_On_T hO) 0 g; omega
      · have := ls_Z_pos hL.2.1 0 (by omega); omega
  have k98 : ∀ (u' : SX) (Y : List ls_It) (l' r' : Nat) (A' B' : List ls_It) (e : Bool) (v : ls_It), ls_sc u' = ls_sc (f_spares, f_root, f_entries, f_cap, f_room, f_accAdd, f_accLow, f_accHigh, a_left, a_right, a_up, a_count, a_kind, a_amount, a_isVoid, a_turnBelow, a_voidBelow, a_live, a_netAll, a_netLive, a_add, a_low, a_high, a_spare, a_copyKind, a_copyAmount, a_copyVoid) → ls_ro u' = ls_ro (f_spares, f_root, f_entries, f_cap, f_room, f_accAdd, f_accLow, f_accHigh, a_left, a_right, a_up, a_count, a_kind, a_amount, a_isVoid, a_turnBelow, a_voidBelow, a_live, a_netAll, a_netLive, a_add, a_low, a_high, a_spare, a_copyKind, a_copyAmount, a_copyVoid) → ls_Lv cap (ls_nv u') i ((e, v, Y) :: Z) l' r' A' x B' P Q → (∀ j, ls_ct j (P ++ x :: Q) = 0 → ls_nv u' j = ls_nv (f_spares, f_root, f_entries, f_cap, f_room, f_accAdd, f_accLow, f_accHigh, a_left, a_right, a_up, a_count, a_kind, a_amount, a_isVoid, a_turnBelow, a_voidBelow, a_live, a_netAll, a_netLive, a_add, a_low, a_high, a_spare, a_copyKind, a_copyAmount, a_copyVoid) j) →
      (match u' with | (f_spares_1, f_root_1, f_entries_1, f_cap_1, f_room_1, f_accAdd_1, f_accLow_1, f_accHigh_1, a_left_1, a_right_1, a_up_1, a_count_1, a_kind_1, a_amount_1, a_isVoid_1, a_turnBelow_1, a_voidBelow_1, a_live_1, a_netAll_1, a_netLive_1, a_add_1, a_low_1, a_high_1, a_spare_1, a_copyKind_1, a_copyAmount_1, a_copyVoid_1) => wX_lift_98 post (wX_lift_2 post (nI i) (nI top) n) (nI i) (nI top) (nI c) f_spares_1 f_root_1 f_entries_1 f_cap_1 f_room_1 f_accAdd_1 f_accLow_1 f_accHigh_1 a_left_1 a_right_1 a_up_1 a_count_1 a_kind_1 a_amount_1 a_isVoid_1 a_turnBelow_1 a_voidBelow_1 a_live_1 a_netAll_1 a_netLive_1 a_add_1 a_low_1 a_high_1 a_spare_1 a_copyKind_1 a_copyAmount_1 a_copyVoid_1) := by
    intro u' Y l' r' A' B' e v s1 r1 L1 F1
    have hcap1 : ls_cp u' = nI cap := (ls_cp_sc s1).trans hcap
    have h01 : ls_Ag cap (ls_nv u' 0).2 [] := by rw [F1 0 z0]; exact h0
    obtain ⟨f_spares_1, f_root_1, f_entries_1, f_cap_1, f_room_1, f_accAdd_1, f_accLow_1, f_accHigh_1, a_left_1, a_right_1, a_up_1, a_count_1, a_kind_1, a_amount_1, a_isVoid_1, a_turnBelow_1, a_voidBelow_1, a_live_1, a_netAll_1, a_netLive_1, a_add_1, a_low_1, a_high_1, a_spare_1, a_copyKind_1, a_copyAmount_1, a_copyVoid_1⟩ := u'
    exact ls_98 hc hcap1 h01 L1 hu hlen fun u2 l2 r2 A2 B2 s2 r2' L2 F2 => K u2 l2 r2 A2 B2 (s2.trans s1) (r2'.trans r1) L2 fun j hj => (F2 j hj).trans (F1 j hj)
  have eL : a_left y.1 = nI (if d then c1 else i) := by
    have : a_left y.1 = (ls_fs d i c1 (ls_par ((d', w, D) :: Z)) y).1 := congrArg (fun z => z.1) h4
    rw [this]; cases d <;> rfl
  have c143 := ls_T_lt h5
  unfold wX_lift_57
  refine ⟨hin, ?_⟩
  cases d with
  | false =>
    refine br_t (by rw [cy]; exact eL) ?_
    unfold wX_lift_73
    cases d' with
    | false =>
      refine br_t hz ?_
      unfold wX_lift_81
      refine br_f (by decide) ?_
      unfold wX_lift_95
      exact ls_zz rfl hc hcap h0 hL hu hlen fun u' C' s1 r1 L1 F1 => k98 u' C' l r A B _ _ s1 r1 L1 F1
    | true =>
      refine br_f (by rw [hz]; decide) ?_
      unfold wX_lift_81
      refine br_t (by decide) ?_
      unfold wX_lift_95
      exact ls_rotL rfl hc hcap h0 hL hu hlen fun u' l' r' A' B' s1 r1 L1 F1 => k98 u' D l' r' A' B' _ _ s1 r1 L1 F1
  | true =>
    have ne : ¬ a_left (nI y.1).toNatClampNeg = nI i := by
      rw [cy, eL]
      intro q
      have q' : c1 = i := (nI_eq (by omega) (by omega)).mp q
      have i0 := hO.1
      have m := ls_T_self h5 (by omega)
      have t := hu i
      rw [← hP, ← hQ, ← ls_full2, ls_ct_app, ls_ct_app, ls_ct_app, ls_ct_self hO.2.2.1] at t
      have v := ls_ct_q (j := i) (d := true) (y := y) (C := C) (Z := (d', w, D) :: Z)
      rw [q'] at m
      omega
    refine br_f ne ?_
    unfold wX_lift_73
    cases d' with
    | false =>
      refine br_f (by rw [hz]; decide) ?_
      unfold wX_lift_81
      refine br_t (by decide) ?_
      unfold wX_lift_95
      exact ls_rotL rfl hc hcap h0 hL hu hlen fun u' l' r' A' B' s1 r1 L1 F1 => k98 u' D l' r' A' B' _ _ s1 r1 L1 F1
    | true =>
      refine br_t hz ?_
      unfold wX_lift_81
      refine br_f (by decide) ?_
      unfold wX_lift_95
      exact ls_zz rfl hc hcap h0 hL hu hlen fun u' C' s1 r1 L1 F1 => k98 u' C' l r A B _ _ s1 r1 L1 F1
end
theorem ls_lfl {post : SX → Prop} {cap i : Nat} {x : ls_It} {P Q : List ls_It} {Z2 : List ls_Fm} (hc : cap ≤ 60) (hu : ls_u1 (P ++ x :: Q)) (hlen : (P ++ x :: Q).length ≤ 300) :
    ∀ (n : Nat) (u : SX) (c l r : Nat) (Z1 : List ls_Fm) (A B : List ls_It), Z1.length < n → c + Z1.length ≤ 42 → ls_cp u = nI cap → ls_Ag cap (ls_nv u 0).2 [] → ls_Lv cap (ls_nv u) i (Z1 ++ Z2) l r A x B P Q →
    (∀ (u' : SX) (l' r' : Nat) (A' B' : List ls_It), ls_sc u' = ls_sc u → (ls_par Z2 = 0 → ls_ro u' = nI i) → (ls_par Z2 ≠ 0 → ls_ro u' = ls_ro u) → ls_Lv cap (ls_nv u') i Z2 l' r' A' x B' P Q → (∀ j, ls_ct j (P ++ x :: Q) = 0 → ls_nv u' j = ls_nv u j) → post u') →
    ls_lf post (nI i) (nI (ls_par Z2)) n (nI c) u := by
  intro n
  induction n with
  | zero => intro u c l r Z1 A B h; omega
  | succ n ih =>
    intro u c l r Z1 A B hn hcn hcap h0 hL K
    obtain ⟨hO, hC, hP, hQ⟩ := id hL
    have hi43 := hO.2.1
    have hin := ls_in43 hi43
    have ci := ls_cln (n := i) (by omega)
    have h43 : ¬ (43 : Int32) ≤ nI c := nI_ge (a := c) (b := 43) (by omega) (by omega)
    have hst := hO.2.2.2.2.1
    have z0 : ls_ct 0 (P ++ x :: Q) = 0 := by
      rcases Nat.eq_zero_or_pos (ls_ct 0 (P ++ x :: Q)) with h | h
      · exact h
      · rw [← hP, ← hQ, ← ls_full2, ls_ct_app, ls_ct_app] at h
        by_cases g : 0 < ls_ct 0 (A ++ x :: B)
        · have := ls_T_in (ls_On_T hO) 0 g; omega
        · have := ls_Z_pos hC 0 (by omega); omega
    have hZ2 : ls_par Z2 < 43 := by
      have key : ∀ Z1 : List ls_Fm, ∀ i S, ls_C cap (ls_nv u) (Z1 ++ Z2) i S → ls_par Z2 < 43 := by
        intro Z1
        induction Z1 with
        | nil => intro i S h; exact (ls_C_par h).1
        | cons f Z1 ih' =>
          intro i S h
          obtain ⟨d, y, C⟩ := f
          obtain ⟨_, _, _, _, _, _, _, h7⟩ := h
          exact ih' _ _ h7
      exact key Z1 i _ hC
    have tcz : ∀ j, ls_ct j (ls_lq Z1) + ls_ct j (ls_rq Z1) + (ls_ct j (ls_lq Z2) + ls_ct j (ls_rq Z2)) ≤ 1 := by
      intro j
      have t := hu j
      rw [← hP, ← hQ, ← ls_full2, ls_ct_app, ls_ct_app] at t
      have := ls_ct_zz (j := j) (Z1 := Z1) (Z2 := Z2)
      omega
    have ih' : ∀ (u' : SX) (c' l' r' : Nat) (Z1' : List ls_Fm) (A' B' : List ls_It), Z1'.length < n → c' + Z1'.length ≤ 42 → ls_sc u' = ls_sc u → ls_ro u' = ls_ro u → ls_Lv cap (ls_nv u') i (Z1' ++ Z2) l' r' A' x B' P Q →
        (∀ j, ls_ct j (P ++ x :: Q) = 0 → ls_nv u' j = ls_nv u j) → ls_lf post (nI i) (nI (ls_par Z2)) n (nI c') u' := by
      intro u' c' l' r' Z1' A' B' q1 q2 s1 r1 L1 F1
      refine ih u' c' l' r' Z1' A' B' q1 q2 ((ls_cp_sc s1).trans hcap) (by rw [F1 0 z0]; exact h0) L1 fun v l2 r2 A2 B2 s2 ra rb L2 F2 => K v l2 r2 A2 B2 (s2.trans s1) ra (fun z => (rb z).trans r1) L2 fun j hj => (F2 j hj).trans (F1 j hj)
    obtain ⟨f_spares, f_root, f_entries, f_cap, f_room, f_accAdd, f_accLow, f_accHigh, a_left, a_right, a_up, a_count, a_kind, a_amount, a_isVoid, a_turnBelow, a_voidBelow, a_live, a_netAll, a_netLive, a_add, a_low, a_high, a_spare, a_copyKind, a_copyAmount, a_copyVoid⟩ := u
    have eu : a_up i = nI (ls_par (Z1 ++ Z2)) := congrArg (fun z => z.2.2.1) hst
    refine br_f h43 ⟨hin, nm_r (e' := nI (ls_par (Z1 ++ Z2))) (by rw [ci]; exact eu) ?_⟩
    cases Z1 with
    | nil =>
      refine br_t rfl ?_
      unfold wX_lift_109
      by_cases hz : ls_par Z2 = 0
      · refine br_t (by rw [hz]; exact nI_0) (K _ l r A B rfl (fun _ => rfl) (fun h => absurd hz h) hL fun _ _ => rfl)
      · refine br_f (nI_ne0 (by omega) (by omega)) (K _ l r A B rfl (fun h => absurd h hz) (fun _ => rfl) hL fun _ _ => rfl)
    | cons f Z1 =>
      obtain ⟨d, y, C⟩ := f
      obtain ⟨c1, h1, h2, h3, h4, h5, h6, h7⟩ := hC
      have hiny := ls_in43 h2
      have cy := ls_cln (n := y.1) (by omega)
      have ney : y.1 ≠ ls_par Z2 := by
        intro e
        have t := tcz y.1
        rw [ls_ct_q, if_pos rfl] at t
        rcases ls_par_ct (Z := Z2) with z | z
        · omega
        · rw [← e] at z; omega
      have eup : a_up y.1 = nI (ls_par (Z1 ++ Z2)) := by
        have : a_up y.1 = (ls_fs d i c1 (ls_par (Z1 ++ Z2)) y).2.2.1 := congrArg (fun z => z.2.2.1) h4
        rw [this]; cases d <;> rfl
      refine br_f (fun e => ney ((nI_eq (by show y.1 < _; omega) (by omega)).mp e)) ⟨hiny, nm_r (e' := nI (ls_par (Z1 ++ Z2))) (by show a_up (nI y.1).toNatClampNeg = _; rw [cy]; exact eup) ?_⟩
      cases Z1 with
      | nil =>
        refine br_t rfl (ls_98 hc hcap h0 hL hu hlen fun u' l' r' A' B' s1 r1 L1 F1 => ih' u' (c + 1) l' r' [] A' B' ?_ ?_ s1 r1 L1 F1)
        · rw [List.length_cons, List.length_nil] at hn; rw [List.length_nil]; omega
        · rw [List.length_cons, List.length_nil] at hcn; rw [List.length_nil]; omega
      | cons f Z1 =>
        obtain ⟨d', w, D⟩ := f
        obtain ⟨c2, w1, w2, w3, w4, w5, w6, w7⟩ := h7
        have hinw := ls_in43 w2
        have cw := ls_cln (n := w.1) (by omega)
        have new : w.1 ≠ ls_par Z2 := by
          intro e
          have t := tcz w.1
          rw [ls_ct_q] at t
          have v := ls_ct_q (j := w.1) (d := d') (y := w) (C := D) (Z := Z1)
          rw [if_pos rfl] at v
          rcases ls_par_ct (Z := Z2) with z | z
          · omega
          · rw [← e] at z; omega
        have ewl : a_left w.1 = nI (if d' then c2 else y.1) := by
          have : a_left w.1 = (ls_fs d' y.1 c2 (ls_par (Z1 ++ Z2)) w).1 := congrArg (fun z => z.1) w4
          rw [this]; cases d' <;> rfl
        have c243 := ls_T_lt w5
        have kk : ∀ z : Int32, z = ls_b (!d') → wX_lift_57 post (wX_lift_2 post (nI i) (nI (ls_par Z2)) n) (nI i) (nI (ls_par Z2)) (nI c) (nI y.1) z f_spares f_root f_entries f_cap f_room f_accAdd f_accLow f_accHigh a_left a_right a_up a_count a_kind a_amount a_isVoid a_turnBelow a_voidBelow a_live a_netAll a_netLive a_add a_low a_high a_spare a_copyKind a_copyAmount a_copyVoid := by
          intro z hz
          refine ls_57 hz hc hcap h0 hL hu hlen fun u' l' r' A' B' s1 r1 L1 F1 => ih' u' (c + 1) l' r' Z1 A' B' ?_ ?_ s1 r1 L1 F1
          · rw [List.length_cons, List.length_cons] at hn; omega
          · rw [List.length_cons, List.length_cons] at hcn; omega
        refine br_f (fun e => new ((nI_eq (by show w.1 < _; omega) (by omega)).mp e)) ⟨hinw, ?_⟩
        cases d' with
        | false => exact br_t (by show a_left (nI w.1).toNatClampNeg = _; rw [cw]; exact ewl) (kk 1 rfl)
        | true =>
          refine br_f ?_ (kk 0 rfl)
          show ¬ a_left (nI w.1).toNatClampNeg = nI y.1
          rw [cw, ewl]
          intro q
          have q' : c2 = y.1 := (nI_eq (by omega) (by omega)).mp q
          have m := ls_T_self w5 (by omega)
          have t := tcz y.1
          rw [ls_ct_q, if_pos rfl] at t
          have v := ls_ct_q (j := y.1) (d := true) (y := w) (C := D) (Z := Z1)
          rw [q'] at m
          omega
theorem ls_lift {u : SX} {q z : Int32} {post : SX → Prop} {cap i l r : Nat} {A : List ls_It} {x : ls_It} {B P Q : List ls_It} {Z1 Z2 : List ls_Fm} (hq : q = nI i) (hz : z = nI (ls_par Z2)) (hc : cap ≤ 60) (hcap : ls_cp u = nI cap) (h0 : ls_Ag cap (ls_nv u 0).2 [])
    (hL : ls_Lv cap (ls_nv u) i (Z1 ++ Z2) l r A x B P Q) (hu : ls_u1 (P ++ x :: Q)) (hlen : (P ++ x :: Q).length ≤ 42)
    (K : ∀ (u' : SX) (l' r' : Nat) (A' B' : List ls_It), ls_sc u' = ls_sc u → (ls_par Z2 = 0 → ls_ro u' = nI i) → (ls_par Z2 ≠ 0 → ls_ro u' = ls_ro u) → ls_Lv cap (ls_nv u') i Z2 l' r' A' x B' P Q → (∀ j, ls_ct j (P ++ x :: Q) = 0 → ls_nv u' j = ls_nv u j) → post u') :
    wpX_lift post u q z := by
  subst hq; subst hz
  have hl : Z1.length ≤ 42 := by
    have h1 := ls_C_len (Z := Z1 ++ Z2)
    obtain ⟨_, _, hP, hQ⟩ := hL
    have h2 := congrArg List.length hP
    have h3 := congrArg List.length hQ
    rw [List.length_append] at h1 h2 h3 hlen
    rw [List.length_cons] at hlen
    omega
  have := ls_lfl (post := post) (i := i) (Z2 := Z2) hc hu (Nat.le_trans hlen (by omega)) (Z1.length + 1) u 0 l r Z1 A B (by omega) (by omega) hcap h0 hL K
  obtain ⟨f_spares, f_root, f_entries, f_cap, f_room, f_accAdd, f_accLow, f_accHigh, a_left, a_right, a_up, a_count, a_kind, a_amount, a_isVoid, a_turnBelow, a_voidBelow, a_live, a_netAll, a_netLive, a_add, a_low, a_high, a_spare, a_copyKind, a_copyAmount, a_copyVoid⟩ := u
  unfold wpX_lift
  exact ⟨Z1.length + 1, this⟩
end
section
/-! isolate, hang -/
theorem ls_split_u : ∀ {A P : List ls_It} {B Q : List ls_It} {x z : ls_It}, ls_u1 (A ++ x :: B) → A ++ x :: B = P ++ z :: Q → x.1 = z.1 → A = P ∧ x = z ∧ B = Q
  | [], [], B, Q, x, z, hu, e, h => by
    have := List.cons.inj e
    exact ⟨rfl, this.1, this.2⟩
  | [], p :: P, B, Q, x, z, hu, e, h => by
    have q := List.cons.inj e
    have t := hu z.1
    have q2 : B = P ++ z :: Q := q.2
    rw [List.nil_append, ls_ct_self h, q2, ls_ct_app, ls_ct_self rfl] at t
    omega
  | a :: A, [], B, Q, x, z, hu, e, h => by
    have q := List.cons.inj e
    have t := hu z.1
    have q2 : Q = A ++ x :: B := q.2.symm
    rw [e, List.nil_append, ls_ct_self rfl, q2, ls_ct_app, ls_ct_self h] at t
    omega
  | a :: A, p :: P, B, Q, x, z, hu, e, h => by
    have q := List.cons.inj e
    have hu' : ls_u1 (A ++ x :: B) := ls_u1_sub hu fun j => by rw [List.cons_append, ls_ct_cons]; omega
    obtain ⟨h1, h2, h3⟩ := ls_split_u hu' q.2 h
    exact ⟨by rw [q.1, h1], h2, h3⟩
theorem ls_u1_0 {cap : Nat} {g : Nat → ls_ND} {i p : Nat} {S : List ls_It} (h : ls_T cap g i p S) : ls_ct 0 S = 0 := by
  rcases Nat.eq_zero_or_pos (ls_ct 0 S) with q | q
  · exact q
  · have := ls_T_in h 0 q; omega
/-- two open nodes at the top, the block between them -/
def ls_Is (cap : Nat) (g : Nat → ls_ND) (b a k : Nat) (P : List ls_It) (x : ls_It) (M : List ls_It) (y : ls_It) (Q : List ls_It) : Prop :=
  ∃ lb ra, ls_On cap g b 0 lb a P x (M ++ y :: Q) ∧ ls_On cap g a b k ra M y Q
theorem ls_isolate {u : SX} {cap ro f t : Nat} {S : List ls_It} {q1 q2 : Int32} {post : Int32 → SX → Prop} (e1 : q1 = nI f) (e2 : q2 = nI t) (hc : cap ≤ 60) (hcap : ls_cp u = nI cap) (h0 : ls_Ag cap (ls_nv u 0).2 [])
    (hro : ls_ro u = nI ro) (hT : ls_T cap (ls_nv u) ro 0 S) (hu : ls_u1 S) (hlen : S.length ≤ 42) (hft : f ≤ t) (ht : t + 1 < S.length)
    (K : ∀ (u' : SX) (b a k : Nat) (P : List ls_It) (x : ls_It) (M : List ls_It) (y : ls_It) (Q : List ls_It), ls_sc u' = ls_sc u → ls_ro u' = nI b → ls_Is cap (ls_nv u') b a k P x M y Q → S = P ++ x :: (M ++ y :: Q) →
      P.length = f → M.length = t - f → (∀ j, ls_ct j S = 0 → ls_nv u' j = ls_nv u j) → post (nI k) u') :
    wpX_isolate post u q1 q2 := by
  subst e1; subst e2
  have z0 := ls_u1_0 hT
  -- the second half: from the state behind the first lift
  have second : ∀ (u2 : SX) (b l r : Nat) (P : List ls_It) (x : ls_It) (Q : List ls_It), ls_sc u2 = ls_sc u → ls_ro u2 = nI b → ls_On cap (ls_nv u2) b 0 l r P x Q → S = P ++ x :: Q → P.length = f →
      (∀ j, ls_ct j S = 0 → ls_nv u2 j = ls_nv u j) →
      wpX_seek (fun r_57 u => match u with | (f_spares_5, f_root_5, f_entries_5, f_cap_5, f_room_5, f_accAdd_5, f_accLow_5, f_accHigh_5, a_left_5, a_right_5, a_up_5, a_count_5, a_kind_5, a_amount_5, a_isVoid_5, a_turnBelow_5, a_voidBelow_5, a_live_5, a_netAll_5, a_netLive_5, a_add_5, a_low_5, a_high_5, a_spare_5, a_copyKind_5, a_copyAmount_5, a_copyVoid_5) => (wpX_lift (fun u => match u with | (f_spares_6, f_root_6, f_entries_6, f_cap_6, f_room_6, f_accAdd_6, f_accLow_6, f_accHigh_6, a_left_6, a_right_6, a_up_6, a_count_6, a_kind_6, a_amount_6, a_isVoid_6, a_turnBelow_6, a_voidBelow_6, a_live_6, a_netAll_6, a_netLive_6, a_add_6, a_low_6, a_high_6, a_spare_6, a_copyKind_6, a_copyAmount_6, a_copyVoid_6) => (vp_in r_57 43 ∧ (post (a_left_6 r_57.toNatClampNeg) (f_spares_6, f_root_6, f_entries_6, f_cap_6, f_room_6, f_accAdd_6, f_accLow_6, f_accHigh_6, a_left_6, a_right_6, a_up_6, a_count_6, a_kind_6, a_amount_6, a_isVoid_6, a_turnBelow_6, a_voidBelow_6, a_live_6, a_netAll_6, a_netLive_6, a_add_6, a_low_6, a_high_6, a_spare_6, a_copyKind_6, a_copyAmount_6, a_copyVoid_6)))) (f_spares_5, f_root_5, f_entries_5, f_cap_5, f_room_5, f_accAdd_5, f_accLow_5, f_accHigh_5, a_left_5, a_right_5, a_up_5, a_count_5, a_kind_5, a_amount_5, a_isVoid_5, a_turnBelow_5, a_voidBelow_5, a_live_5, a_netAll_5, a_netLive_5, a_add_5, a_low_5, a_high_5, a_spare_5, a_copyKind_5, a_copyAmount_5, a_copyVoid_5) r_57 (nI b))) u2 (nI t + 1) := by
    intro u2 b l r P x Q s2 ro2 O2 eS lP F2
    have hcap2 : ls_cp u2 = nI cap := (ls_cp_sc s2).trans hcap
    have h02 : ls_Ag cap (ls_nv u2 0).2 [] := by rw [F2 0 z0]; exact h0
    have T2 : ls_T cap (ls_nv u2) b (ls_par []) S := by rw [eS]; exact ls_On_T O2
    have lS : S.length = P.length + (Q.length + 1) := by rw [eS, List.length_append, List.length_cons]
    have sk : ls_sk (fun r_57 u => match u with | (f_spares_5, f_root_5, f_entries_5, f_cap_5, f_room_5, f_accAdd_5, f_accLow_5, f_accHigh_5, a_left_5, a_right_5, a_up_5, a_count_5, a_kind_5, a_amount_5, a_isVoid_5, a_turnBelow_5, a_voidBelow_5, a_live_5, a_netAll_5, a_netLive_5, a_add_5, a_low_5, a_high_5, a_spare_5, a_copyKind_5, a_copyAmount_5, a_copyVoid_5) => (wpX_lift (fun u => match u with | (f_spares_6, f_root_6, f_entries_6, f_cap_6, f_room_6, f_accAdd_6, f_accLow_6, f_accHigh_6, a_left_6, a_right_6, a_up_6, a_count_6, a_kind_6, a_amount_6, a_isVoid_6, a_turnBelow_6, a_voidBelow_6, a_live_6, a_netAll_6, a_netLive_6, a_add_6, a_low_6, a_high_6, a_spare_6, a_copyKind_6, a_copyAmount_6, a_copyVoid_6) => (vp_in r_57 43 ∧ (post (a_left_6 r_57.toNatClampNeg) (f_spares_6, f_root_6, f_entries_6, f_cap_6, f_room_6, f_accAdd_6, f_accLow_6, f_accHigh_6, a_left_6, a_right_6, a_up_6, a_count_6, a_kind_6, a_amount_6, a_isVoid_6, a_turnBelow_6, a_voidBelow_6, a_live_6, a_netAll_6, a_netLive_6, a_add_6, a_low_6, a_high_6, a_spare_6, a_copyKind_6, a_copyAmount_6, a_copyVoid_6)))) (f_spares_5, f_root_5, f_entries_5, f_cap_5, f_room_5, f_accAdd_5, f_accLow_5, f_accHigh_5, a_left_5, a_right_5, a_up_5, a_count_5, a_kind_5, a_amount_5, a_isVoid_5, a_turnBelow_5, a_voidBelow_5, a_live_5, a_netAll_5, a_netLive_5, a_add_5, a_low_5, a_high_5, a_spare_5, a_copyKind_5, a_copyAmount_5, a_copyVoid_5) r_57 (nI b))) (42 + 1) (nI b) (nI (t + 1)) (nI 0) u2 := by
      refine ls_sk1 (Z := []) (S := S) hc hcap2 (by omega) h02 T2 True.intro ?_ (by omega) (by omega) fun u3 l3 r3 A3 x3 B3 s3 ro3 O3 e3 C3 F3 => ?_
      · show ls_u1 ([] ++ S ++ [])
        rw [List.nil_append, List.append_nil]; exact hu
      · have hx3 : x3.1 = b := O3.2.2.1
        have hx : x.1 = b := O2.2.2.1
        obtain ⟨eA, ex, eB⟩ := ls_split_u (by rw [← e3]; exact hu) (e3.symm.trans eS) (hx3.trans hx.symm)
        subst eA; subst ex; subst eB
        refine ⟨fun h => by omega, fun h => by omega, fun _ => ?_⟩
        have hcap3 : ls_cp u3 = nI cap := (ls_cp_sc s3).trans hcap2
        have h03 : ls_Ag cap (ls_nv u3 0).2 [] := by rw [F3 0 z0]; exact h02
        have er : t + 1 - A3.length - 1 = t - f := by omega
        rw [er]
        have eF : ls_lq [(true, x3, A3)] ++ B3 ++ ls_rq [(true, x3, A3)] = S := by
          rw [eS]
          show ([] ++ (A3 ++ [x3])) ++ B3 ++ [] = A3 ++ x3 :: B3
          simp only [List.nil_append, List.append_nil, List.append_assoc, List.cons_append]
        refine ls_skl (cap := cap) hc 42 u3 r3 (t - f) (0 + 1) [(true, x3, A3)] B3 (by omega) (by omega) hcap3 h03 ?_ (ls_C_r O3 True.intro) (by rw [eF]; exact hu) (by omega) ?_
        · show ls_T cap (ls_nv u3) r3 x3.1 B3
          rw [hx3]; exact O3.2.2.2.2.2.2.1
        · intro u4 a l4 r4 Z1 A4 y B4 s4 ro4 O4 C4 len4 e4 F4
          rw [eF] at e4
          have F4' : ∀ j, ls_ct j S = 0 → ls_nv u4 j = ls_nv u j := fun j hj => (F4 j (by rw [eS, ls_ct_app, ls_ct_cons] at hj; omega)).trans ((F3 j hj).trans (F2 j hj))
          have hcap4 : ls_cp u4 = nI cap := (ls_cp_sc s4).trans hcap3
          have h04 : ls_Ag cap (ls_nv u4 0).2 [] := by rw [F4' 0 z0]; exact h0
          have e4' : (ls_lq (Z1 ++ [(true, x3, A3)]) ++ A4) ++ y :: (B4 ++ ls_rq (Z1 ++ [(true, x3, A3)])) = S := by rw [← ls_full2]; exact e4
          have lft : wpX_lift (fun u => match u with | (f_spares_6, f_root_6, f_entries_6, f_cap_6, f_room_6, f_accAdd_6, f_accLow_6, f_accHigh_6, a_left_6, a_right_6, a_up_6, a_count_6, a_kind_6, a_amount_6, a_isVoid_6, a_turnBelow_6, a_voidBelow_6, a_live_6, a_netAll_6, a_netLive_6, a_add_6, a_low_6, a_high_6, a_spare_6, a_copyKind_6, a_copyAmount_6, a_copyVoid_6) => (vp_in (nI a) 43 ∧ (post (a_left_6 (nI a).toNatClampNeg) (f_spares_6, f_root_6, f_entries_6, f_cap_6, f_room_6, f_accAdd_6, f_accLow_6, f_accHigh_6, a_left_6, a_right_6, a_up_6, a_count_6, a_kind_6, a_amount_6, a_isVoid_6, a_turnBelow_6, a_voidBelow_6, a_live_6, a_netAll_6, a_netLive_6, a_add_6, a_low_6, a_high_6, a_spare_6, a_copyKind_6, a_copyAmount_6, a_copyVoid_6)))) u4 (nI a) (nI b) := by
            refine ls_lift (Z1 := Z1) (Z2 := [(true, x3, A3)]) rfl (by show nI b = nI x3.1; rw [hx3]) hc hcap4 h04 ⟨O4, C4, rfl, rfl⟩ (by rw [e4']; exact hu) (by rw [e4']; exact hlen) fun u5 l5 r5 A5 B5 s5 ra rb L5 F5 => ?_
            obtain ⟨O5, C5, p5, q5⟩ := L5
            obtain ⟨c, w1, w2, w3, w4, w5, w6, _⟩ := C5
            have hb0 : x3.1 ≠ 0 := by omega
            have O5' : ls_On cap (ls_nv u5) a b l5 r5 A5 y B5 := by
              have : ls_On cap (ls_nv u5) a x3.1 l5 r5 A5 y B5 := O5
              rw [hx3] at this; exact this
            rw [hx3] at w1 w2 w4 w5 w6
            have Ob : ls_On cap (ls_nv u5) b 0 c a A3 x3 (A5 ++ y :: B5) := ⟨w1, w2, hx3, w3, w4, w5, O5'.2.2.2.2.2 |> fun _ => ls_On_T O5', w6⟩
            have eS5 : S = A3 ++ x3 :: (A5 ++ y :: B5) := by
              rw [← e4', ← p5, ← q5]
              show ([] ++ (A3 ++ [x3])) ++ A5 ++ y :: (B5 ++ []) = _
              simp only [List.nil_append, List.append_nil, List.append_assoc, List.cons_append]
            have lM : A5.length = t - f := by
              have := congrArg List.length p5
              rw [len4] at this
              have e1 : (ls_lq [(true, x3, A3)]).length = A3.length + 1 := by
                show ([] ++ (A3 ++ [x3])).length = _
                rw [List.nil_append, List.length_append, List.length_singleton]
              rw [List.length_append, e1] at this
              omega
            have F5' : ∀ j, ls_ct j S = 0 → ls_nv u5 j = ls_nv u j := fun j hj => (F5 j (by rw [e4']; exact hj)).trans (F4' j hj)
            have hro5 : ls_ro u5 = nI b := ((rb (by show x3.1 ≠ 0; omega)).trans (ro4.trans ro3)).trans ro2
            have fin := K u5 b a l5 A3 x3 A5 y B5 (s5.trans (s4.trans (s3.trans s2))) hro5 ⟨c, r5, Ob, O5'⟩ eS5 lP lM F5'
            have ha43 : a < 43 := O5'.2.1
            have ca := ls_cln (n := a) (by omega)
            have hst := O5'.2.2.2.2.1
            obtain ⟨f_spares_6, f_root_6, f_entries_6, f_cap_6, f_room_6, f_accAdd_6, f_accLow_6, f_accHigh_6, a_left_6, a_right_6, a_up_6, a_count_6, a_kind_6, a_amount_6, a_isVoid_6, a_turnBelow_6, a_voidBelow_6, a_live_6, a_netAll_6, a_netLive_6, a_add_6, a_low_6, a_high_6, a_spare_6, a_copyKind_6, a_copyAmount_6, a_copyVoid_6⟩ := u5
            have el : a_left_6 a = nI l5 := congrArg (fun z => z.1) hst
            refine And.intro (ls_in43 ha43) ?_
            rw [ca, el]
            exact fin
          obtain ⟨f_spares_5, f_root_5, f_entries_5, f_cap_5, f_room_5, f_accAdd_5, f_accLow_5, f_accHigh_5, a_left_5, a_right_5, a_up_5, a_count_5, a_kind_5, a_amount_5, a_isVoid_5, a_turnBelow_5, a_voidBelow_5, a_live_5, a_netAll_5, a_netLive_5, a_add_5, a_low_5, a_high_5, a_spare_5, a_copyKind_5, a_copyAmount_5, a_copyVoid_5⟩ := u4
          exact lft
    obtain ⟨f_spares_2, f_root_2, f_entries_2, f_cap_2, f_room_2, f_accAdd_2, f_accLow_2, f_accHigh_2, a_left_2, a_right_2, a_up_2, a_count_2, a_kind_2, a_amount_2, a_isVoid_2, a_turnBelow_2, a_voidBelow_2, a_live_2, a_netAll_2, a_netLive_2, a_add_2, a_low_2, a_high_2, a_spare_2, a_copyKind_2, a_copyAmount_2, a_copyVoid_2⟩ := u2
    have hr2 : f_root_2 = nI b := ro2
    subst hr2
    unfold wpX_seek
    refine ⟨42 + 1, ?_⟩
    rw [nI_1]
    exact sk
  have first : wpX_seek (fun r_1 u => match u with | (f_spares_3, f_root_3, f_entries_3, f_cap_3, f_room_3, f_accAdd_3, f_accLow_3, f_accHigh_3, a_left_3, a_right_3, a_up_3, a_count_3, a_kind_3, a_amount_3, a_isVoid_3, a_turnBelow_3, a_voidBelow_3, a_live_3, a_netAll_3, a_netLive_3, a_add_3, a_low_3, a_high_3, a_spare_3, a_copyKind_3, a_copyAmount_3, a_copyVoid_3) => (wpX_lift (fun u => match u with | (f_spares_4, f_root_4, f_entries_4, f_cap_4, f_room_4, f_accAdd_4, f_accLow_4, f_accHigh_4, a_left_4, a_right_4, a_up_4, a_count_4, a_kind_4, a_amount_4, a_isVoid_4, a_turnBelow_4, a_voidBelow_4, a_live_4, a_netAll_4, a_netLive_4, a_add_4, a_low_4, a_high_4, a_spare_4, a_copyKind_4, a_copyAmount_4, a_copyVoid_4) => (wpX_seek (fun r_57 u => match u with | (f_spares_5, f_root_5, f_entries_5, f_cap_5, f_room_5, f_accAdd_5, f_accLow_5, f_accHigh_5, a_left_5, a_right_5, a_up_5, a_count_5, a_kind_5, a_amount_5, a_isVoid_5, a_turnBelow_5, a_voidBelow_5, a_live_5, a_netAll_5, a_netLive_5, a_add_5, a_low_5, a_high_5, a_spare_5, a_copyKind_5, a_copyAmount_5, a_copyVoid_5) => (wpX_lift (fun u => match u with | (f_spares_6, f_root_6, f_entries_6, f_cap_6, f_room_6, f_accAdd_6, f_accLow_6, f_accHigh_6, a_left_6, a_right_6, a_up_6, a_count_6, a_kind_6, a_amount_6, a_isVoid_6, a_turnBelow_6, a_voidBelow_6, a_live_6, a_netAll_6, a_netLive_6, a_add_6, a_low_6, a_high_6, a_spare_6, a_copyKind_6, a_copyAmount_6, a_copyVoid_6) => (vp_in r_57 43 ∧ (post (a_left_6 r_57.toNatClampNeg) (f_spares_6, f_root_6, f_entries_6, f_cap_6, f_room_6, f_accAdd_6, f_accLow_6, f_accHigh_6, a_left_6, a_right_6, a_up_6, a_count_6, a_kind_6, a_amount_6, a_isVoid_6, a_turnBelow_6, a_voidBelow_6, a_live_6, a_netAll_6, a_netLive_6, a_add_6, a_low_6, a_high_6, a_spare_6, a_copyKind_6, a_copyAmount_6, a_copyVoid_6)))) (f_spares_5, f_root_5, f_entries_5, f_cap_5, f_room_5, f_accAdd_5, f_accLow_5, f_accHigh_5, a_left_5, a_right_5, a_up_5, a_count_5, a_kind_5, a_amount_5, a_isVoid_5, a_turnBelow_5, a_voidBelow_5, a_live_5, a_netAll_5, a_netLive_5, a_add_5, a_low_5, a_high_5, a_spare_5, a_copyKind_5, a_copyAmount_5, a_copyVoid_5) r_57 r_1)) (f_spares_4, f_root_4, f_entries_4, f_cap_4, f_room_4, f_accAdd_4, f_accLow_4, f_accHigh_4, a_left_4, a_right_4, a_up_4, a_count_4, a_kind_4, a_amount_4, a_isVoid_4, a_turnBelow_4, a_voidBelow_4, a_live_4, a_netAll_4, a_netLive_4, a_add_4, a_low_4, a_high_4, a_spare_4, a_copyKind_4, a_copyAmount_4, a_copyVoid_4) (nI t + 1))) (f_spares_3, f_root_3, f_entries_3, f_cap_3, f_room_3, f_accAdd_3, f_accLow_3, f_accHigh_3, a_left_3, a_right_3, a_up_3, a_count_3, a_kind_3, a_amount_3, a_isVoid_3, a_turnBelow_3, a_voidBelow_3, a_live_3, a_netAll_3, a_netLive_3, a_add_3, a_low_3, a_high_3, a_spare_3, a_copyKind_3, a_copyAmount_3, a_copyVoid_3) r_1 0)) u (nI f) := by
    have sk : ls_sk (fun r_1 u => match u with | (f_spares_3, f_root_3, f_entries_3, f_cap_3, f_room_3, f_accAdd_3, f_accLow_3, f_accHigh_3, a_left_3, a_right_3, a_up_3, a_count_3, a_kind_3, a_amount_3, a_isVoid_3, a_turnBelow_3, a_voidBelow_3, a_live_3, a_netAll_3, a_netLive_3, a_add_3, a_low_3, a_high_3, a_spare_3, a_copyKind_3, a_copyAmount_3, a_copyVoid_3) => (wpX_lift (fun u => match u with | (f_spares_4, f_root_4, f_entries_4, f_cap_4, f_room_4, f_accAdd_4, f_accLow_4, f_accHigh_4, a_left_4, a_right_4, a_up_4, a_count_4, a_kind_4, a_amount_4, a_isVoid_4, a_turnBelow_4, a_voidBelow_4, a_live_4, a_netAll_4, a_netLive_4, a_add_4, a_low_4, a_high_4, a_spare_4, a_copyKind_4, a_copyAmount_4, a_copyVoid_4) => (wpX_seek (fun r_57 u => match u with | (f_spares_5, f_root_5, f_entries_5, f_cap_5, f_room_5, f_accAdd_5, f_accLow_5, f_accHigh_5, a_left_5, a_right_5, a_up_5, a_count_5, a_kind_5, a_amount_5, a_isVoid_5, a_turnBelow_5, a_voidBelow_5, a_live_5, a_netAll_5, a_netLive_5, a_add_5, a_low_5, a_high_5, a_spare_5, a_copyKind_5, a_copyAmount_5, a_copyVoid_5) => (wpX_lift (fun u => match u with | (f_spares_6, f_root_6, f_entries_6, f_cap_6, f_room_6, f_accAdd_6, f_accLow_6, f_accHigh_6, a_left_6, a_right_6, a_up_6, a_count_6, a_kind_6, a_amount_6, a_isVoid_6, a_turnBelow_6, a_voidBelow_6, a_live_6, a_netAll_6, a_netLive_6, a_add_6, a_low_6, a_high_6, a_spare_6, a_copyKind_6, a_copyAmount_6, a_copyVoid_6) => (vp_in r_57 43 ∧ (post (a_left_6 r_57.toNatClampNeg) (f_spares_6, f_root_6, f_entries_6, f_cap_6, f_room_6, f_accAdd_6, f_accLow_6, f_accHigh_6, a_left_6, a_right_6, a_up_6, a_count_6, a_kind_6, a_amount_6, a_isVoid_6, a_turnBelow_6, a_voidBelow_6, a_live_6, a_netAll_6, a_netLive_6, a_add_6, a_low_6, a_high_6, a_spare_6, a_copyKind_6, a_copyAmount_6, a_copyVoid_6)))) (f_spares_5, f_root_5, f_entries_5, f_cap_5, f_room_5, f_accAdd_5, f_accLow_5, f_accHigh_5, a_left_5, a_right_5, a_up_5, a_count_5, a_kind_5, a_amount_5, a_isVoid_5, a_turnBelow_5, a_voidBelow_5, a_live_5, a_netAll_5, a_netLive_5, a_add_5, a_low_5, a_high_5, a_spare_5, a_copyKind_5, a_copyAmount_5, a_copyVoid_5) r_57 r_1)) (f_spares_4, f_root_4, f_entries_4, f_cap_4, f_room_4, f_accAdd_4, f_accLow_4, f_accHigh_4, a_left_4, a_right_4, a_up_4, a_count_4, a_kind_4, a_amount_4, a_isVoid_4, a_turnBelow_4, a_voidBelow_4, a_live_4, a_netAll_4, a_netLive_4, a_add_4, a_low_4, a_high_4, a_spare_4, a_copyKind_4, a_copyAmount_4, a_copyVoid_4) (nI t + 1))) (f_spares_3, f_root_3, f_entries_3, f_cap_3, f_room_3, f_accAdd_3, f_accLow_3, f_accHigh_3, a_left_3, a_right_3, a_up_3, a_count_3, a_kind_3, a_amount_3, a_isVoid_3, a_turnBelow_3, a_voidBelow_3, a_live_3, a_netAll_3, a_netLive_3, a_add_3, a_low_3, a_high_3, a_spare_3, a_copyKind_3, a_copyAmount_3, a_copyVoid_3) r_1 0)) 43 (nI ro) (nI f) (nI 0) u := by
      refine ls_skl (cap := cap) hc 43 u ro f 0 [] S (by omega) (by omega) hcap h0 hT True.intro ?_ (by omega) ?_
      · show ls_u1 ([] ++ S ++ [])
        rw [List.nil_append, List.append_nil]; exact hu
      · intro u1 b l r Z1 A x B s1 ro1 O1 C1 len1 e1 F1
        have e1' : (ls_lq (Z1 ++ []) ++ A) ++ x :: (B ++ ls_rq (Z1 ++ [])) = S := by
          rw [← ls_full2, e1]
          show [] ++ S ++ [] = S
          rw [List.nil_append, List.append_nil]
        have len1' : (ls_lq (Z1 ++ []) ++ A).length = f := by
          rw [len1]
          show ([] : List ls_It).length + f = f
          rw [List.length_nil]; omega
        have hcap1 : ls_cp u1 = nI cap := (ls_cp_sc s1).trans hcap
        have h01 : ls_Ag cap (ls_nv u1 0).2 [] := by rw [F1 0 z0]; exact h0
        have lft : wpX_lift (fun u => match u with | (f_spares_4, f_root_4, f_entries_4, f_cap_4, f_room_4, f_accAdd_4, f_accLow_4, f_accHigh_4, a_left_4, a_right_4, a_up_4, a_count_4, a_kind_4, a_amount_4, a_isVoid_4, a_turnBelow_4, a_voidBelow_4, a_live_4, a_netAll_4, a_netLive_4, a_add_4, a_low_4, a_high_4, a_spare_4, a_copyKind_4, a_copyAmount_4, a_copyVoid_4) => (wpX_seek (fun r_57 u => match u with | (f_spares_5, f_root_5, f_entries_5, f_cap_5, f_room_5, f_accAdd_5, f_accLow_5, f_accHigh_5, a_left_5, a_right_5, a_up_5, a_count_5, a_kind_5, a_amount_5, a_isVoid_5, a_turnBelow_5, a_voidBelow_5, a_live_5, a_netAll_5, a_netLive_5, a_add_5, a_low_5, a_high_5, a_spare_5, a_copyKind_5, a_copyAmount_5, a_copyVoid_5) => (wpX_lift (fun u => match u with | (f_spares_6, f_root_6, f_entries_6, f_cap_6, f_room_6, f_accAdd_6, f_accLow_6, f_accHigh_6, a_left_6, a_right_6, a_up_6, a_count_6, a_kind_6, a_amount_6, a_isVoid_6, a_turnBelow_6, a_voidBelow_6, a_live_6, a_netAll_6, a_netLive_6, a_add_6, a_low_6, a_high_6, a_spare_6, a_copyKind_6, a_copyAmount_6, a_copyVoid_6) => (vp_in r_57 43 ∧ (post (a_left_6 r_57.toNatClampNeg) (f_spares_6, f_root_6, f_entries_6, f_cap_6, f_room_6, f_accAdd_6, f_accLow_6, f_accHigh_6, a_left_6, a_right_6, a_up_6, a_count_6, a_kind_6, a_amount_6, a_isVoid_6, a_turnBelow_6, a_voidBelow_6, a_live_6, a_netAll_6, a_netLive_6, a_add_6, a_low_6, a_high_6, a_spare_6, a_copyKind_6, a_copyAmount_6, a_copyVoid_6)))) (f_spares_5, f_root_5, f_entries_5, f_cap_5, f_room_5, f_accAdd_5, f_accLow_5, f_accHigh_5, a_left_5, a_right_5, a_up_5, a_count_5, a_kind_5, a_amount_5, a_isVoid_5, a_turnBelow_5, a_voidBelow_5, a_live_5, a_netAll_5, a_netLive_5, a_add_5, a_low_5, a_high_5, a_spare_5, a_copyKind_5, a_copyAmount_5, a_copyVoid_5) r_57 (nI b))) (f_spares_4, f_root_4, f_entries_4, f_cap_4, f_room_4, f_accAdd_4, f_accLow_4, f_accHigh_4, a_left_4, a_right_4, a_up_4, a_count_4, a_kind_4, a_amount_4, a_isVoid_4, a_turnBelow_4, a_voidBelow_4, a_live_4, a_netAll_4, a_netLive_4, a_add_4, a_low_4, a_high_4, a_spare_4, a_copyKind_4, a_copyAmount_4, a_copyVoid_4) (nI t + 1))) u1 (nI b) 0 := by
          refine ls_lift (Z1 := Z1) (Z2 := []) rfl nI_0.symm hc hcap1 h01 ⟨O1, C1, rfl, rfl⟩ (by rw [e1']; exact hu) (by rw [e1']; exact hlen) fun u2 l2 r2 A2 B2 s2 ra rb L2 F2 => ?_
          obtain ⟨O2, _, p2, q2⟩ := L2
          have p2' : A2 = ls_lq (Z1 ++ []) ++ A := p2
          have q2' : B2 = B ++ ls_rq (Z1 ++ []) := by
            have : B2 ++ [] = B ++ ls_rq (Z1 ++ []) := q2
            rw [List.append_nil] at this; exact this
          have := second u2 b l2 r2 A2 x B2 (s2.trans s1) (ra rfl) O2 (by rw [p2', q2', e1']) (by rw [p2']; exact len1') (fun j hj => (F2 j (by rw [e1']; exact hj)).trans (F1 j hj))
          obtain ⟨f_spares_4, f_root_4, f_entries_4, f_cap_4, f_room_4, f_accAdd_4, f_accLow_4, f_accHigh_4, a_left_4, a_right_4, a_up_4, a_count_4, a_kind_4, a_amount_4, a_isVoid_4, a_turnBelow_4, a_voidBelow_4, a_live_4, a_netAll_4, a_netLive_4, a_add_4, a_low_4, a_high_4, a_spare_4, a_copyKind_4, a_copyAmount_4, a_copyVoid_4⟩ := u2
          exact this
        obtain ⟨f_spares_3, f_root_3, f_entries_3, f_cap_3, f_room_3, f_accAdd_3, f_accLow_3, f_accHigh_3, a_left_3, a_right_3, a_up_3, a_count_3, a_kind_3, a_amount_3, a_isVoid_3, a_turnBelow_3, a_voidBelow_3, a_live_3, a_netAll_3, a_netLive_3, a_add_3, a_low_3, a_high_3, a_spare_3, a_copyKind_3, a_copyAmount_3, a_copyVoid_3⟩ := u1
        exact lft
    obtain ⟨f_spares, f_root, f_entries, f_cap, f_room, f_accAdd, f_accLow, f_accHigh, a_left, a_right, a_up, a_count, a_kind, a_amount, a_isVoid, a_turnBelow, a_voidBelow, a_live, a_netAll, a_netLive, a_add, a_low, a_high, a_spare, a_copyKind, a_copyAmount, a_copyVoid⟩ := u
    have hr : f_root = nI ro := hro
    subst hr
    unfold wpX_seek
    exact ⟨43, sk⟩
  obtain ⟨f_spares, f_root, f_entries, f_cap, f_room, f_accAdd, f_accLow, f_accHigh, a_left, a_right, a_up, a_count, a_kind, a_amount, a_isVoid, a_turnBelow, a_voidBelow, a_live, a_netAll, a_netLive, a_add, a_low, a_high, a_spare, a_copyKind, a_copyAmount, a_copyVoid⟩ := u
  unfold wpX_isolate
  exact first
end
section
/-! hang -/
/-- the two open nodes at the top, whatever hangs between them and whatever they say of it -/
def ls_IW (cap : Nat) (g : Nat → ls_ND) (b a : Nat) (P : List ls_It) (x y : ls_It) (Q : List ls_It) : Prop :=
  ∃ lb ra kl, 0 < b ∧ b < 43 ∧ x.1 = b ∧ ls_ok cap x ∧ (g b).1 = ls_st lb a 0 x false none ∧ ls_T cap g lb b P ∧
    0 < a ∧ a < 43 ∧ y.1 = a ∧ ls_ok cap y ∧ (g a).1 = ls_st kl ra b y false none ∧ ls_T cap g ra a Q
theorem ls_Is_W {cap : Nat} {g : Nat → ls_ND} {b a k : Nat} {P M Q : List ls_It} {x y : ls_It} (h : ls_Is cap g b a k P x M y Q) : ls_IW cap g b a P x y Q := by
  obtain ⟨lb, ra, h1, h2⟩ := h
  exact ⟨lb, ra, k, h1.1, h1.2.1, h1.2.2.1, h1.2.2.2.1, h1.2.2.2.2.1, h1.2.2.2.2.2.1, h2.1, h2.2.1, h2.2.2.1, h2.2.2.2.1, h2.2.2.2.2.1, h2.2.2.2.2.2.2.1⟩
theorem ls_IW_fr {cap : Nat} {g g' : Nat → ls_ND} {b a : Nat} {P Q : List ls_It} {x y : ls_It} (h : ls_IW cap g b a P x y Q) (hf : ∀ j, 0 < ls_ct j (P ++ x :: (y :: Q)) → g' j = g j) : ls_IW cap g' b a P x y Q := by
  obtain ⟨lb, ra, kl, h1, h2, h3, h4, h5, h6, k1, k2, k3, k4, k5, k6⟩ := h
  have eb : g' b = g b := hf b (by rw [ls_ct_app, ls_ct_self h3]; omega)
  have ea : g' a = g a := hf a (by rw [ls_ct_app, ls_ct_cons, ls_ct_self k3]; omega)
  refine ⟨lb, ra, kl, h1, h2, h3, h4, by rw [eb]; exact h5, ls_T_fr h6 fun j hj => hf j ?_, k1, k2, k3, k4, by rw [ea]; exact k5, ls_T_fr k6 fun j hj => hf j ?_⟩
  · rw [ls_ct_app]; omega
  · rw [ls_ct_app, ls_ct_cons, ls_ct_cons]; omega
section
variable {f_spares f_root f_entries f_cap f_room f_accAdd f_accLow f_accHigh : Int32} {a_left a_right a_up a_count a_kind a_amount a_isVoid a_turnBelow a_voidBelow a_live a_netAll a_netLive a_add a_low a_high a_spare a_copyKind a_copyAmount a_copyVoid : Nat → Int32}
theorem ls_hang28 {u0 : SX} {cap b a k lb ra : Nat} {P M Q : List ls_It} {x y : ls_It} {post : SX → Prop} (hc : cap ≤ 60) (hcap : ls_cp (f_spares, f_root, f_entries, f_cap, f_room, f_accAdd, f_accLow, f_accHigh, a_left, a_right, a_up, a_count, a_kind, a_amount, a_isVoid, a_turnBelow, a_voidBelow, a_live, a_netAll, a_netLive, a_add, a_low, a_high, a_spare, a_copyKind, a_copyAmount, a_copyVoid) = nI cap) (h0 : ls_Ag cap (ls_nv (f_spares, f_root, f_entries, f_cap, f_room, f_accAdd, f_accLow, f_accHigh, a_left, a_right, a_up, a_count, a_kind, a_amount, a_isVoid, a_turnBelow, a_voidBelow, a_live, a_netAll, a_netLive, a_add, a_low, a_high, a_spare, a_copyKind, a_copyAmount, a_copyVoid) 0).2 [])
    (hro : ls_ro (f_spares, f_root, f_entries, f_cap, f_room, f_accAdd, f_accLow, f_accHigh, a_left, a_right, a_up, a_count, a_kind, a_amount, a_isVoid, a_turnBelow, a_voidBelow, a_live, a_netAll, a_netLive, a_add, a_low, a_high, a_spare, a_copyKind, a_copyAmount, a_copyVoid) = nI b) (hs : ls_sc (f_spares, f_root, f_entries, f_cap, f_room, f_accAdd, f_accLow, f_accHigh, a_left, a_right, a_up, a_count, a_kind, a_amount, a_isVoid, a_turnBelow, a_voidBelow, a_live, a_netAll, a_netLive, a_add, a_low, a_high, a_spare, a_copyKind, a_copyAmount, a_copyVoid) = ls_sc u0)
    (b0 : 0 < b) (b43 : b < 43) (hx : x.1 = b) (ox : ls_ok cap x) (hb : (ls_nv (f_spares, f_root, f_entries, f_cap, f_room, f_accAdd, f_accLow, f_accHigh, a_left, a_right, a_up, a_count, a_kind, a_amount, a_isVoid, a_turnBelow, a_voidBelow, a_live, a_netAll, a_netLive, a_add, a_low, a_high, a_spare, a_copyKind, a_copyAmount, a_copyVoid) b).1 = ls_st lb a 0 x false none) (hP : ls_T cap (ls_nv (f_spares, f_root, f_entries, f_cap, f_room, f_accAdd, f_accLow, f_accHigh, a_left, a_right, a_up, a_count, a_kind, a_amount, a_isVoid, a_turnBelow, a_voidBelow, a_live, a_netAll, a_netLive, a_add, a_low, a_high, a_spare, a_copyKind, a_copyAmount, a_copyVoid)) lb b P)
    (a0 : 0 < a) (a43 : a < 43) (hy : y.1 = a) (oy : ls_ok cap y) (ha : (ls_nv (f_spares, f_root, f_entries, f_cap, f_room, f_accAdd, f_accLow, f_accHigh, a_left, a_right, a_up, a_count, a_kind, a_amount, a_isVoid, a_turnBelow, a_voidBelow, a_live, a_netAll, a_netLive, a_add, a_low, a_high, a_spare, a_copyKind, a_copyAmount, a_copyVoid) a).1 = ls_st k ra b y false none) (hM : ls_T cap (ls_nv (f_spares, f_root, f_entries, f_cap, f_room, f_accAdd, f_accLow, f_accHigh, a_left, a_right, a_up, a_count, a_kind, a_amount, a_isVoid, a_turnBelow, a_voidBelow, a_live, a_netAll, a_netLive, a_add, a_low, a_high, a_spare, a_copyKind, a_copyAmount, a_copyVoid)) k a M) (hQ : ls_T cap (ls_nv (f_spares, f_root, f_entries, f_cap, f_room, f_accAdd, f_accLow, f_accHigh, a_left, a_right, a_up, a_count, a_kind, a_amount, a_isVoid, a_turnBelow, a_voidBelow, a_live, a_netAll, a_netLive, a_add, a_low, a_high, a_spare, a_copyKind, a_copyAmount, a_copyVoid)) ra a Q)
    (hu : ls_u1 (P ++ x :: (M ++ y :: Q))) (hlen : (P ++ x :: (M ++ y :: Q)).length ≤ 42)
    (F : ∀ j, j ≠ b → j ≠ a → (j = k → k = 0) → ls_nv (f_spares, f_root, f_entries, f_cap, f_room, f_accAdd, f_accLow, f_accHigh, a_left, a_right, a_up, a_count, a_kind, a_amount, a_isVoid, a_turnBelow, a_voidBelow, a_live, a_netAll, a_netLive, a_add, a_low, a_high, a_spare, a_copyKind, a_copyAmount, a_copyVoid) j = ls_nv u0 j)
    (K : ∀ u' : SX, ls_sc u' = ls_sc u0 → ls_ro u' = nI b → ls_T cap (ls_nv u') b 0 (P ++ x :: (M ++ y :: Q)) → (∀ j, j ≠ b → j ≠ a → (j = k → k = 0) → ls_nv u' j = ls_nv u0 j) → post u') :
    wX_hang_28 post (nI a) f_spares f_root f_entries f_cap f_room f_accAdd f_accLow f_accHigh a_left a_right a_up a_count a_kind a_amount a_isVoid a_turnBelow a_voidBelow a_live a_netAll a_netLive a_add a_low a_high a_spare a_copyKind a_copyAmount a_copyVoid := by
  have tc : ∀ j, ls_ct j P + ls_ct j M + ls_ct j Q + ls_oc b j + ls_oc a j ≤ 1 := by
    intro j
    have t := hu j
    rw [ls_ct_app, ls_ct_cons, ls_ct_app, ls_ct_cons, hx, hy] at t
    unfold ls_oc; omega
  have nab : b ≠ a := by
    intro e
    have t := tc b
    rw [← e, ls_oc_s] at t; omega
  have notin : ∀ {c p : Nat} {R : List ls_It}, ls_T cap (ls_nv (f_spares, f_root, f_entries, f_cap, f_room, f_accAdd, f_accLow, f_accHigh, a_left, a_right, a_up, a_count, a_kind, a_amount, a_isVoid, a_turnBelow, a_voidBelow, a_live, a_netAll, a_netLive, a_add, a_low, a_high, a_spare, a_copyKind, a_copyAmount, a_copyVoid)) c p R → (∀ j, ls_ct j R + ls_oc b j + ls_oc a j ≤ 1) → c ≠ b ∧ c ≠ a := by
    intro c p R hR t
    rcases ls_T_or hR with z | z
    · omega
    · constructor
      · intro e; have := t c; rw [← e, ls_oc_s] at this; omega
      · intro e; have := t c; rw [← e, ls_oc_s] at this; omega
  have nP := notin hP (fun j => by have := tc j; omega)
  have nM := notin hM (fun j => by have := tc j; omega)
  have nQ := notin hQ (fun j => by have := tc j; omega)
  have oP := ls_T_oks hP
  have oM := ls_T_oks hM
  have oQ := ls_T_oks hQ
  have lens : P.length ≤ 42 ∧ M.length ≤ 42 ∧ Q.length ≤ 42 ∧ (M ++ y :: Q).length ≤ 42 := by
    rw [List.length_append, List.length_cons] at hlen
    have e := List.length_append (as := M) (bs := y :: Q)
    rw [List.length_cons] at e
    omega
  have ja : ∀ {R : List ls_It}, (∀ j, ls_ct j R + ls_oc b j + ls_oc a j ≤ 1) → ∀ j, 0 < ls_ct j R → j ≠ b ∧ j ≠ a := by
    intro R t j hj
    constructor
    · intro e; have := t b; rw [ls_oc_s] at this; rw [e] at hj; omega
    · intro e; have := t a; rw [ls_oc_s] at this; rw [e] at hj; omega
  have jP := ja (R := P) (fun j => by have := tc j; omega)
  have jM := ja (R := M) (fun j => by have := tc j; omega)
  have jQ := ja (R := Q) (fun j => by have := tc j; omega)
  unfold wX_hang_28
  refine ls_pull (i := a) (l := k) (r := ra) (p := b) (x := y) (A := M) (B := Q) rfl hc hcap a43 (ls_T_lt hM) (ls_T_lt hQ) nM.2 nQ.2 ha (ls_T_Ag hM h0) (ls_T_Ag hQ h0) oM oQ oy (by omega) (by omega) fun u2 s2 r2 e2 a2 F2 => ?_
  have T2 : ls_T cap (ls_nv u2) a b (M ++ y :: Q) := ls_On_T (l := k) (r := ra) ⟨a0, a43, hy, oy, e2.trans ha, ls_T_fr hM fun j hj => F2 j (jM j hj).2, ls_T_fr hQ fun j hj => F2 j (jQ j hj).2, a2⟩
  have P2 : ls_T cap (ls_nv u2) lb b P := ls_T_fr hP fun j hj => F2 j (jP j hj).2
  have h02 : ls_Ag cap (ls_nv u2 0).2 [] := by rw [F2 0 (by omega)]; exact h0
  have hb2 : (ls_nv u2 b).1 = ls_st lb a 0 x false none := by rw [F2 b nab]; exact hb
  have hcap2 : ls_cp u2 = nI cap := (ls_cp_sc s2).trans hcap
  have s2' := s2.trans hs
  have r2' : ls_ro u2 = nI b := r2.trans hro
  have oMQ := ls_T_oks T2
  obtain ⟨f_spares_2, f_root_2, f_entries_2, f_cap_2, f_room_2, f_accAdd_2, f_accLow_2, f_accHigh_2, a_left_2, a_right_2, a_up_2, a_count_2, a_kind_2, a_amount_2, a_isVoid_2, a_turnBelow_2, a_voidBelow_2, a_live_2, a_netAll_2, a_netLive_2, a_add_2, a_low_2, a_high_2, a_spare_2, a_copyKind_2, a_copyAmount_2, a_copyVoid_2⟩ := u2
  have er : f_root_2 = nI b := r2'
  refine ls_pull (i := b) (l := lb) (r := a) (p := 0) (x := x) (A := P) (B := M ++ y :: Q) er hc hcap2 b43 (ls_T_lt hP) a43 nP.1 (Ne.symm nab) hb2 (ls_T_Ag P2 h02) (ls_T_Ag T2 h02) oP oMQ ox (by omega) (by omega) fun u3 s3 r3 e3 a3 F3 => ?_
  have T3 : ls_T cap (ls_nv u3) b 0 (P ++ x :: (M ++ y :: Q)) := by
    refine ls_On_T (l := lb) (r := a) ⟨b0, b43, hx, ox, e3.trans hb2, ls_T_fr P2 fun j hj => F3 j (jP j hj).1, ls_T_fr T2 fun j hj => F3 j ?_, a3⟩
    intro e
    have t := tc b
    rw [ls_oc_s] at t
    rw [e, ls_ct_app, ls_ct_cons, hy, if_neg (Ne.symm nab)] at hj
    omega
  have fin := K u3 (s3.trans s2') (r3.trans r2') T3 fun j j1 j2 j3 => (F3 j j1).trans ((F2 j j2).trans (F j j1 j2 j3))
  obtain ⟨f_spares_3, f_root_3, f_entries_3, f_cap_3, f_room_3, f_accAdd_3, f_accLow_3, f_accHigh_3, a_left_3, a_right_3, a_up_3, a_count_3, a_kind_3, a_amount_3, a_isVoid_3, a_turnBelow_3, a_voidBelow_3, a_live_3, a_netAll_3, a_netLive_3, a_add_3, a_low_3, a_high_3, a_spare_3, a_copyKind_3, a_copyAmount_3, a_copyVoid_3⟩ := u3
  exact fin
theorem ls_hang {u : SX} {cap b a k q : Nat} {P M Q : List ls_It} {x y : ls_It} {z : Int32} {post : SX → Prop} (hz : z = nI k) (hc : cap ≤ 60) (hcap : ls_cp u = nI cap) (h0 : ls_Ag cap (ls_nv u 0).2 [])
    (hro : ls_ro u = nI b) (hW : ls_IW cap (ls_nv u) b a P x y Q) (hM : ls_T cap (ls_nv u) k q M)
    (hu : ls_u1 (P ++ x :: (M ++ y :: Q))) (hlen : (P ++ x :: (M ++ y :: Q)).length ≤ 42)
    (K : ∀ u' : SX, ls_sc u' = ls_sc u → ls_ro u' = nI b → ls_T cap (ls_nv u') b 0 (P ++ x :: (M ++ y :: Q)) → (∀ j, j ≠ b → j ≠ a → (j = k → k = 0) → ls_nv u' j = ls_nv u j) → post u') :
    wpX_hang post u z := by
  subst hz
  obtain ⟨lb, ra, kl, b0, b43, hx, ox, hb, hP, a0, a43, hy, oy, ha, hQ⟩ := hW
  have tc : ∀ j, ls_ct j P + ls_ct j M + ls_ct j Q + ls_oc b j + ls_oc a j ≤ 1 := by
    intro j
    have t := hu j
    rw [ls_ct_app, ls_ct_cons, ls_ct_app, ls_ct_cons, hx, hy] at t
    unfold ls_oc; omega
  have nab : b ≠ a := by
    intro e
    have t := tc b
    rw [← e, ls_oc_s] at t; omega
  have k43 := ls_T_lt hM
  have hk := ls_T_or hM
  have nkb : k ≠ b := by
    intro e
    rcases hk with w | w
    · omega
    · have t := tc b; rw [ls_oc_s] at t; rw [e] at w; omega
  have nka : k ≠ a := by
    intro e
    rcases hk with w | w
    · omega
    · have t := tc a; rw [ls_oc_s] at t; rw [e] at w; omega
  have jP : ∀ j, 0 < ls_ct j P → j ≠ b ∧ j ≠ a ∧ j ≠ k := by
    intro j hj
    have j0 := (ls_T_in hP j hj).1
    refine ⟨fun e => ?_, fun e => ?_, fun e => ?_⟩
    · have t := tc b; rw [ls_oc_s] at t; rw [e] at hj; omega
    · have t := tc a; rw [ls_oc_s] at t; rw [e] at hj; omega
    · have t := tc k; rw [e] at hj j0; omega
  have jQ : ∀ j, 0 < ls_ct j Q → j ≠ b ∧ j ≠ a ∧ j ≠ k := by
    intro j hj
    have j0 := (ls_T_in hQ j hj).1
    refine ⟨fun e => ?_, fun e => ?_, fun e => ?_⟩
    · have t := tc b; rw [ls_oc_s] at t; rw [e] at hj; omega
    · have t := tc a; rw [ls_oc_s] at t; rw [e] at hj; omega
    · have t := tc k; rw [e] at hj j0; omega
  have jM : ∀ j, 0 < ls_ct j M → j ≠ b ∧ j ≠ a := by
    intro j hj
    refine ⟨fun e => ?_, fun e => ?_⟩
    · have t := tc b; rw [ls_oc_s] at t; rw [e] at hj; omega
    · have t := tc a; rw [ls_oc_s] at t; rw [e] at hj; omega
  have uM : ls_u1 M := fun j => by have := tc j; omega
  have hinb := ls_in43 b43
  have hina := ls_in43 a43
  have hink := ls_in43 k43
  have cb := ls_cln (n := b) (by omega)
  have ca := ls_cln (n := a) (by omega)
  have ck := ls_cln (n := k) (by omega)
  obtain ⟨f_spares, f_root, f_entries, f_cap, f_room, f_accAdd, f_accLow, f_accHigh, a_left, a_right, a_up, a_count, a_kind, a_amount, a_isVoid, a_turnBelow, a_voidBelow, a_live, a_netAll, a_netLive, a_add, a_low, a_high, a_spare, a_copyKind, a_copyAmount, a_copyVoid⟩ := u
  have er : f_root = nI b := hro
  subst er
  have hcap' : f_cap = nI cap := hcap
  have ear : a_right b = nI a := congrArg (fun z => z.2.1) hb
  have n1 : ∀ j, j ≠ a → ls_nv (f_spares, nI b, f_entries, f_cap, f_room, f_accAdd, f_accLow, f_accHigh, upd a_left a (nI k), a_right, a_up, a_count, a_kind, a_amount, a_isVoid, a_turnBelow, a_voidBelow, a_live, a_netAll, a_netLive, a_add, a_low, a_high, a_spare, a_copyKind, a_copyAmount, a_copyVoid) j = ls_nv (f_spares, nI b, f_entries, f_cap, f_room, f_accAdd, f_accLow, f_accHigh, a_left, a_right, a_up, a_count, a_kind, a_amount, a_isVoid, a_turnBelow, a_voidBelow, a_live, a_netAll, a_netLive, a_add, a_low, a_high, a_spare, a_copyKind, a_copyAmount, a_copyVoid) j := by
    intro j hj
    dsimp only [ls_nv]; rw [ls_un hj]
  have n1a : (ls_nv (f_spares, nI b, f_entries, f_cap, f_room, f_accAdd, f_accLow, f_accHigh, upd a_left a (nI k), a_right, a_up, a_count, a_kind, a_amount, a_isVoid, a_turnBelow, a_voidBelow, a_live, a_netAll, a_netLive, a_add, a_low, a_high, a_spare, a_copyKind, a_copyAmount, a_copyVoid) a).1 = (nI k, (ls_nv (f_spares, nI b, f_entries, f_cap, f_room, f_accAdd, f_accLow, f_accHigh, a_left, a_right, a_up, a_count, a_kind, a_amount, a_isVoid, a_turnBelow, a_voidBelow, a_live, a_netAll, a_netLive, a_add, a_low, a_high, a_spare, a_copyKind, a_copyAmount, a_copyVoid) a).1.2) := by
    dsimp only [ls_nv]; rw [ls_us']
  unfold wpX_hang
  refine ⟨hinb, nm_r (e' := nI a) (by rw [cb]; exact ear) ⟨hina, nm_r (e' := upd a_left a (nI k)) (by rw [ca]) ?_⟩⟩
  by_cases z0 : k = 0
  · subst z0
    have eM := ls_T_0 hM
    subst eM
    refine br_t nI_0 (ls_hang28 (u0 := (f_spares, nI b, f_entries, f_cap, f_room, f_accAdd, f_accLow, f_accHigh, a_left, a_right, a_up, a_count, a_kind, a_amount, a_isVoid, a_turnBelow, a_voidBelow, a_live, a_netAll, a_netLive, a_add, a_low, a_high, a_spare, a_copyKind, a_copyAmount, a_copyVoid)) (lb := lb) (ra := ra) (M := []) hc hcap' ?_ rfl ls_scX b0 b43 hx ox ?_ (ls_T_fr hP fun j hj => n1 j (jP j hj).2.1) a0 a43 hy oy ?_ (ls_T_nil a) (ls_T_fr hQ fun j hj => n1 j (jQ j hj).2.1) hu hlen (fun j _ j2 _ => n1 j j2) K)
    · rw [n1 0 (by omega)]; exact h0
    · rw [n1 b nab]; exact hb
    · rw [n1a, ha]; rfl
  · have n2 : ∀ j, j ≠ a → j ≠ k → ls_nv (f_spares, nI b, f_entries, f_cap, f_room, f_accAdd, f_accLow, f_accHigh, upd a_left a (nI k), a_right, upd a_up k (nI a), a_count, a_kind, a_amount, a_isVoid, a_turnBelow, a_voidBelow, a_live, a_netAll, a_netLive, a_add, a_low, a_high, a_spare, a_copyKind, a_copyAmount, a_copyVoid) j = ls_nv (f_spares, nI b, f_entries, f_cap, f_room, f_accAdd, f_accLow, f_accHigh, a_left, a_right, a_up, a_count, a_kind, a_amount, a_isVoid, a_turnBelow, a_voidBelow, a_live, a_netAll, a_netLive, a_add, a_low, a_high, a_spare, a_copyKind, a_copyAmount, a_copyVoid) j := by
      intro j hj hk'
      dsimp only [ls_nv]; rw [ls_un hj, ls_un hk']
    have n2a : (ls_nv (f_spares, nI b, f_entries, f_cap, f_room, f_accAdd, f_accLow, f_accHigh, upd a_left a (nI k), a_right, upd a_up k (nI a), a_count, a_kind, a_amount, a_isVoid, a_turnBelow, a_voidBelow, a_live, a_netAll, a_netLive, a_add, a_low, a_high, a_spare, a_copyKind, a_copyAmount, a_copyVoid) a).1 = (nI k, (ls_nv (f_spares, nI b, f_entries, f_cap, f_room, f_accAdd, f_accLow, f_accHigh, a_left, a_right, a_up, a_count, a_kind, a_amount, a_isVoid, a_turnBelow, a_voidBelow, a_live, a_netAll, a_netLive, a_add, a_low, a_high, a_spare, a_copyKind, a_copyAmount, a_copyVoid) a).1.2) := by
      dsimp only [ls_nv]; rw [ls_us', ls_un (Ne.symm nka)]
    have n2k : ls_nv (f_spares, nI b, f_entries, f_cap, f_room, f_accAdd, f_accLow, f_accHigh, upd a_left a (nI k), a_right, upd a_up k (nI a), a_count, a_kind, a_amount, a_isVoid, a_turnBelow, a_voidBelow, a_live, a_netAll, a_netLive, a_add, a_low, a_high, a_spare, a_copyKind, a_copyAmount, a_copyVoid) k = (ls_uS a (ls_nv (f_spares, nI b, f_entries, f_cap, f_room, f_accAdd, f_accLow, f_accHigh, a_left, a_right, a_up, a_count, a_kind, a_amount, a_isVoid, a_turnBelow, a_voidBelow, a_live, a_netAll, a_netLive, a_add, a_low, a_high, a_spare, a_copyKind, a_copyAmount, a_copyVoid) k).1, (ls_nv (f_spares, nI b, f_entries, f_cap, f_room, f_accAdd, f_accLow, f_accHigh, a_left, a_right, a_up, a_count, a_kind, a_amount, a_isVoid, a_turnBelow, a_voidBelow, a_live, a_netAll, a_netLive, a_add, a_low, a_high, a_spare, a_copyKind, a_copyAmount, a_copyVoid) k).2) := by
      dsimp only [ls_nv, ls_uS]; rw [ls_us', ls_un nka]
    refine br_f (nI_ne0 (by omega) (by omega)) ⟨hink, nm_r (e' := upd a_up k (nI a)) (by rw [ck]) (ls_hang28 (u0 := (f_spares, nI b, f_entries, f_cap, f_room, f_accAdd, f_accLow, f_accHigh, a_left, a_right, a_up, a_count, a_kind, a_amount, a_isVoid, a_turnBelow, a_voidBelow, a_live, a_netAll, a_netLive, a_add, a_low, a_high, a_spare, a_copyKind, a_copyAmount, a_copyVoid)) (lb := lb) (ra := ra) (M := M) hc hcap' ?_ rfl ls_scX b0 b43 hx ox ?_ (ls_T_fr hP fun j hj => n2 j (jP j hj).2.1 (jP j hj).2.2) a0 a43 hy oy ?_
      (ls_T_up hM uM (fun j hj hn => n2 j (jM j hj).2 hn) (fun _ => n2k)) (ls_T_fr hQ fun j hj => n2 j (jQ j hj).2.1 (jQ j hj).2.2) hu hlen (fun j _ j2 j3 => n2 j j2 (fun e => z0 (j3 e))) K)⟩
    · rw [n2 0 (by omega) (by omega)]; exact h0
    · rw [n2 b nab (Ne.symm nkb)]; exact hb
    · rw [n2a, ha]; rfl
end
end
section
/-! the whole tree: the entries between the two sentinels -/
def ls_hd : ls_It := (1, 0, 0, false)
def ls_tl : ls_It := (2, 0, 0, false)
def ls_fl (es : List ls_It) : List ls_It := ls_hd :: (es ++ [ls_tl])
def ls_Xc (cap : Nat) (es : List ls_It) (u : SX) : Prop :=
  cap ≤ 60 ∧ ls_cp u = nI cap ∧ ls_Ag cap (ls_nv u 0).2 [] ∧ (∃ b, ls_ro u = nI b ∧ ls_T cap (ls_nv u) b 0 (ls_fl es)) ∧ ls_u1 (ls_fl es) ∧ es.length ≤ 40
theorem ls_ct_fl {j : Nat} {es : List ls_It} : ls_ct j (ls_fl es) = (if 1 = j then 1 else 0) + ls_ct j es + (if 2 = j then 1 else 0) := by
  unfold ls_fl
  rw [ls_ct_cons, ls_ct_app, ls_ct_cons, ls_ct_nil]
  show (if 1 = j then 1 else 0) + (ls_ct j es + ((if 2 = j then 1 else 0) + 0)) = _
  omega
theorem ls_len_fl {es : List ls_It} : (ls_fl es).length = es.length + 2 := by
  unfold ls_fl
  rw [List.length_cons, List.length_append, List.length_singleton]
theorem ls_fl_mid {P Q E1 E2 M : List ls_It} {x y : ls_It} (h1 : P ++ [x] = ls_hd :: E1) (h2 : y :: Q = E2 ++ [ls_tl]) : P ++ x :: (M ++ y :: Q) = ls_fl (E1 ++ (M ++ E2)) := by
  have e : P ++ x :: (M ++ y :: Q) = (P ++ [x]) ++ (M ++ y :: Q) := by simp only [List.append_assoc, List.cons_append, List.nil_append]
  rw [e, h1, h2]
  unfold ls_fl
  simp only [List.append_assoc, List.cons_append]
theorem ls_fl_split {es P Q M : List ls_It} {x y : ls_It} {f t : Nat} (e : ls_fl es = P ++ x :: (M ++ y :: Q)) (hP : P.length = f) (hM : M.length = t - f) (hft : f ≤ t) (ht : t ≤ es.length) :
    ∃ E1 E2, es = E1 ++ (M ++ E2) ∧ E1.length = f ∧ P ++ [x] = ls_hd :: E1 ∧ y :: Q = E2 ++ [ls_tl] := by
  have e0 : es = es.take f ++ ((es.drop f).take (t - f) ++ (es.drop f).drop (t - f)) := by rw [List.take_append_drop, List.take_append_drop]
  have l1 : (es.take f).length = f := by rw [List.length_take]; omega
  have l2 : ((es.drop f).take (t - f)).length = t - f := by rw [List.length_take, List.length_drop]; omega
  have e1 : (P ++ [x]) ++ (M ++ (y :: Q)) = (ls_hd :: es.take f) ++ ((es.drop f).take (t - f) ++ ((es.drop f).drop (t - f) ++ [ls_tl])) := by
    have q1 : (P ++ [x]) ++ (M ++ (y :: Q)) = P ++ x :: (M ++ y :: Q) := by simp only [List.append_assoc, List.cons_append, List.nil_append]
    rw [q1, ← e]
    unfold ls_fl
    conv => lhs; rw [e0]
    simp only [List.append_assoc, List.cons_append]
  have i1 := List.append_inj e1 (by rw [List.length_append, List.length_singleton, List.length_cons, l1, hP])
  have i2 := List.append_inj i1.2 (by rw [l2, hM])
  refine ⟨es.take f, (es.drop f).drop (t - f), ?_, l1, i1.1, i2.2⟩
  rw [i2.1]; exact e0
theorem ls_Xiso {u : SX} {cap f t : Nat} {es : List ls_It} {q1 q2 : Int32} {post : Int32 → SX → Prop} (hX : ls_Xc cap es u) (e1 : q1 = nI f) (e2 : q2 = nI t) (hft : f ≤ t) (ht : t ≤ es.length)
    (K : ∀ (u' : SX) (b a k : Nat) (P : List ls_It) (x : ls_It) (M : List ls_It) (y : ls_It) (Q E1 E2 : List ls_It), ls_Xc cap es u' → ls_sc u' = ls_sc u → ls_ro u' = nI b → ls_Is cap (ls_nv u') b a k P x M y Q → es = E1 ++ (M ++ E2) → E1.length = f → M.length = t - f →
      P ++ [x] = ls_hd :: E1 → y :: Q = E2 ++ [ls_tl] → (∀ j, ls_ct j (ls_fl es) = 0 → ls_nv u' j = ls_nv u j) → post (nI k) u') :
    wpX_isolate post u q1 q2 := by
  obtain ⟨hc, hcap, h0, ⟨ro, hro, hT⟩, hu, hl⟩ := hX
  have z0 := ls_u1_0 hT
  refine ls_isolate e1 e2 hc hcap h0 hro hT hu (by rw [ls_len_fl]; omega) hft (by rw [ls_len_fl]; omega) fun u' b a k P x M y Q s1 r1 I1 eS lP lM F1 => ?_
  obtain ⟨E1, E2, h1, h2, h3, h4⟩ := ls_fl_split eS lP lM hft ht
  refine K u' b a k P x M y Q E1 E2 ⟨hc, (ls_cp_sc s1).trans hcap, by rw [F1 0 z0]; exact h0, ⟨b, r1, ?_⟩, hu, hl⟩ s1 r1 I1 h1 h2 lM h3 h4 F1
  obtain ⟨lb, ra, O1, O2⟩ := I1
  rw [eS]; exact ls_On_T O1
/-- the block itself -/
theorem ls_Is_T {cap : Nat} {g : Nat → ls_ND} {b a k : Nat} {P M Q : List ls_It} {x y : ls_It} (h : ls_Is cap g b a k P x M y Q) : ls_T cap g k a M := by
  obtain ⟨lb, ra, h1, h2⟩ := h
  exact h2.2.2.2.2.2.1
theorem ls_T_one {cap : Nat} {g : Nat → ls_ND} {k p : Nat} {z : ls_It} (h : ls_T cap g k p [z]) : 0 < k ∧ k < 43 ∧ z.1 = k ∧ ls_ok cap z ∧ ∃ l r t w, (g k).1 = ls_st l r p z t w := by
  rcases ls_T_inv h with ⟨_, h1⟩ | ⟨l, r, A, B, x, t, w, h1, h2, h3, h4, h5, h6, h7, h8, h9⟩
  · cases h1
  · have hl := congrArg List.length h8
    rw [List.length_singleton, List.length_append, List.length_cons, ls_len_lz, ls_len_lz] at hl
    have eA : A = [] := List.length_eq_zero_iff.mp (by omega)
    have eB : B = [] := List.length_eq_zero_iff.mp (by omega)
    rw [eA, eB, ls_lz_nil, List.nil_append] at h8
    have ez : z = x := (List.cons.inj h8).1
    rw [ez]
    exact ⟨h1, h2, h3, h4, l, r, t, w, h5⟩
/-- a changed block hung back -/
theorem ls_Xhang {u u1 : SX} {cap b a k q : Nat} {es E1 E2 M' P Q : List ls_It} {x y : ls_It} {z : Int32} {post : SX → Prop} (hX : ls_Xc cap es u) (hs : ls_sc u1 = ls_sc u) (h0 : ls_Ag cap (ls_nv u1 0).2 []) (hz : z = nI k) (hro : ls_ro u1 = nI b)
    (hW : ls_IW cap (ls_nv u1) b a P x y Q) (hM : ls_T cap (ls_nv u1) k q M') (h1 : P ++ [x] = ls_hd :: E1) (h2 : y :: Q = E2 ++ [ls_tl])
    (hu : ls_u1 (ls_fl (E1 ++ (M' ++ E2)))) (hl : (E1 ++ (M' ++ E2)).length ≤ 40)
    (K : ∀ u' : SX, ls_Xc cap (E1 ++ (M' ++ E2)) u' → ls_sc u' = ls_sc u → (∀ j, ls_ct j (ls_fl (E1 ++ (M' ++ E2))) = 0 → ls_nv u' j = ls_nv u1 j) → post u') :
    wpX_hang post u1 z := by
  obtain ⟨hc, hcap, _, _, _, _⟩ := hX
  have e := ls_fl_mid (M := M') h1 h2
  have hcap1 : ls_cp u1 = nI cap := (ls_cp_sc hs).trans hcap
  have hb : x.1 = b ∧ y.1 = a ∧ 0 < b ∧ 0 < a := by
    obtain ⟨lb, ra, kl, w1, w2, w3, w4, w5, w6, k1, k2, k3, k4, k5, k6⟩ := hW
    exact ⟨w3, k3, w1, k1⟩
  have kk := ls_T_or hM
  refine ls_hang hz hc hcap1 h0 hro hW hM (by rw [e]; exact hu) (by rw [e, ls_len_fl]; omega) fun u' s1 r1 T1 F1 => ?_
  rw [e] at T1
  refine K u' ⟨hc, (ls_cp_sc s1).trans hcap1, ?_, ⟨b, r1, T1⟩, hu, hl⟩ (s1.trans hs) fun j hj => ?_
  · rw [F1 0 (by omega) (by omega) (fun e => e.symm)]; exact h0
  · rw [← e, ls_ct_app, ls_ct_cons, ls_ct_app, ls_ct_cons] at hj
    refine F1 j (fun z => ?_) (fun z => ?_) (fun z => ?_)
    · rw [if_pos (hb.1.trans z.symm)] at hj; omega
    · rw [if_pos (hb.2.1.trans z.symm)] at hj; omega
    · rcases kk with w | w
      · exact w
      · rw [← z] at w; omega
section
variable {f_spares f_root f_entries f_cap f_room f_accAdd f_accLow f_accHigh : Int32} {a_left a_right a_up a_count a_kind a_amount a_isVoid a_turnBelow a_voidBelow a_live a_netAll a_netLive a_add a_low a_high a_spare a_copyKind a_copyAmount a_copyVoid : Nat → Int32}
/-- a node made anew -/
theorem ls_setUp {u : SX} {cap n : Nat} {v : Bool} {q p1 p2 p3 : Int32} {post : SX → Prop} (hq : q = nI n) (h3 : p3 = ls_b v) (hc : cap ≤ 60) (hcap : ls_cp u = nI cap) (hn0 : 0 < n) (hn : n < 43) (h0 : ls_Ag cap (ls_nv u 0).2 []) (ok : ls_ok cap (n, p1, p2, v))
    (K : ∀ u' : SX, ls_sc u' = ls_sc u → ls_ro u' = ls_ro u → ls_On cap (ls_nv u') n 0 0 0 [] (n, p1, p2, v) [] → (∀ j, j ≠ n → ls_nv u' j = ls_nv u j) → post u') :
    wpX_setUp post u q p1 p2 p3 := by
  subst hq; subst h3
  have hin := ls_in43 hn
  have c := ls_cln (n := n) (by omega)
  obtain ⟨f_spares, f_root, f_entries, f_cap, f_room, f_accAdd, f_accLow, f_accHigh, a_left, a_right, a_up, a_count, a_kind, a_amount, a_isVoid, a_turnBelow, a_voidBelow, a_live, a_netAll, a_netLive, a_add, a_low, a_high, a_spare, a_copyKind, a_copyAmount, a_copyVoid⟩ := u
  have hcap' : f_cap = nI cap := hcap
  have fr : ∀ j, j ≠ n → ls_nv (f_spares, f_root, f_entries, f_cap, f_room, f_accAdd, f_accLow, f_accHigh, upd a_left n 0, upd a_right n 0, upd a_up n 0, a_count, upd a_kind n p1, upd a_amount n p2, upd a_isVoid n (ls_b v), upd a_turnBelow n 0, upd a_voidBelow n 2, a_live, a_netAll, a_netLive, a_add, a_low, a_high, a_spare, a_copyKind, a_copyAmount, a_copyVoid) j = ls_nv (f_spares, f_root, f_entries, f_cap, f_room, f_accAdd, f_accLow, f_accHigh, a_left, a_right, a_up, a_count, a_kind, a_amount, a_isVoid, a_turnBelow, a_voidBelow, a_live, a_netAll, a_netLive, a_add, a_low, a_high, a_spare, a_copyKind, a_copyAmount, a_copyVoid) j := by
    intro j hj
    dsimp only [ls_nv]; simp (disch := omega) only [ls_un]
  have hst : (ls_nv (f_spares, f_root, f_entries, f_cap, f_room, f_accAdd, f_accLow, f_accHigh, upd a_left n 0, upd a_right n 0, upd a_up n 0, a_count, upd a_kind n p1, upd a_amount n p2, upd a_isVoid n (ls_b v), upd a_turnBelow n 0, upd a_voidBelow n 2, a_live, a_netAll, a_netLive, a_add, a_low, a_high, a_spare, a_copyKind, a_copyAmount, a_copyVoid) n).1 = ls_st 0 0 0 (n, p1, p2, v) false none := by
    dsimp only [ls_nv]; simp (disch := omega) only [ls_us]; rfl
  unfold wpX_setUp
  refine ⟨hin, nm_r (e' := upd a_kind n p1) (by rw [c]) ⟨hin, nm_r (e' := upd a_amount n p2) (by rw [c]) ⟨hin, nm_r (e' := upd a_isVoid n (ls_b v)) (by rw [c, ls_narb]) ⟨hin, nm_r (e' := upd a_left n 0) (by rw [c])
    ⟨hin, nm_r (e' := upd a_right n 0) (by rw [c]) ⟨hin, nm_r (e' := upd a_up n 0) (by rw [c]) ⟨hin, nm_r (e' := upd a_turnBelow n 0) (by rw [c]; rfl) ⟨hin, nm_r (e' := upd a_voidBelow n 2) (by rw [c]) ?_⟩⟩⟩⟩⟩⟩⟩⟩
  refine ls_pull (i := n) (l := 0) (r := 0) (p := 0) (x := (n, p1, p2, v)) (A := []) (B := []) rfl hc hcap' hn (by omega) (by omega) (by omega) (by omega) hst (by rw [fr 0 (by omega)]; exact h0) (by rw [fr 0 (by omega)]; exact h0)
    (ls_oks_nil cap) (ls_oks_nil cap) ok (by rw [List.length_nil]; omega) (by rw [List.length_nil]; omega) fun u' s1 r1 e1 a1 F1 => ?_
  have fin := K u' (Eq.trans s1 ls_scX) (Eq.trans r1 ls_roX) ⟨hn0, hn, rfl, ok, e1.trans hst, ls_T_nil n, ls_T_nil n, a1⟩ fun j hj => (F1 j hj).trans (fr j hj)
  obtain ⟨f_spares_1, f_root_1, f_entries_1, f_cap_1, f_room_1, f_accAdd_1, f_accLow_1, f_accHigh_1, a_left_1, a_right_1, a_up_1, a_count_1, a_kind_1, a_amount_1, a_isVoid_1, a_turnBelow_1, a_voidBelow_1, a_live_1, a_netAll_1, a_netLive_1, a_add_1, a_low_1, a_high_1, a_spare_1, a_copyKind_1, a_copyAmount_1, a_copyVoid_1⟩ := u'
  exact fin
end
end
section
/-! the class's methods over the list of entries -/
def ls_spr (sp : Nat → Int32) (n : Nat) (es : List ls_It) : Prop :=
  ∃ s : Nat → Nat, (∀ j, j < n → sp j = nI (s j) ∧ 2 < s j ∧ s j < 43 ∧ ls_ct (s j) es = 0) ∧ (∀ i j, i < j → j < n → s i ≠ s j)
def ls_X (cap room : Nat) (es : List ls_It) (u : SX) : Prop :=
  4 ≤ cap ∧ 2 ≤ room ∧ room ≤ 40 ∧ es.length ≤ room ∧ ls_Xc cap es u ∧
  ∃ sp ck ca cv, ls_sc u = (nI (40 - es.length), nI es.length, nI cap, nI room, sp, ck, ca, cv) ∧ ls_spr sp (40 - es.length) es
theorem ls_X_upd {cap room : Nat} {es es' : List ls_It} {u u' : SX} (hX : ls_X cap room es u) (hs : ls_sc u' = ls_sc u) (hc : ls_Xc cap es' u') (hlen : es'.length = es.length) (hct : ∀ j, ls_ct j es' = ls_ct j es) : ls_X cap room es' u' := by
  obtain ⟨h1, h2, h3, h4, h5, sp, ck, ca, cv, h6, s, h7, h8⟩ := hX
  refine ⟨h1, h2, h3, by omega, hc, sp, ck, ca, cv, by rw [hs, h6, hlen], s, ?_, ?_⟩
  · intro j hj
    rw [hct]; exact h7 j (by omega)
  · intro i j hi hj; exact h8 i j hi (by omega)
/-- a range that is good -/
def ls_gd (n : Nat) (p0 p1 : Int32) : Prop := ¬ p0 < 0 ∧ ¬ p1 < p0 ∧ ¬ nI n < p1
theorem ls_gd_nat {n : Nat} {p0 p1 : Int32} (hn : n < 2 ^ 31) (h : ls_gd n p0 p1) : ∃ f t, p0 = nI f ∧ p1 = nI t ∧ f ≤ t ∧ t ≤ n := by
  obtain ⟨h1, h2, h3⟩ := h
  obtain ⟨f, hf, e0⟩ := nI_of h1
  have h4 : ¬ p1 < 0 := by
    intro z
    rw [Int32.lt_iff_toInt_lt] at h1 h2 z
    rw [Int32.toInt_zero] at h1 z
    omega
  obtain ⟨t, ht, e1⟩ := nI_of h4
  rw [e0, e1, nI_ltI ht hf] at h2
  rw [e1, nI_ltI hn ht] at h3
  exact ⟨f, t, e0, e1, by omega, by omega⟩
def ls_ac (u : SX) : ls_E3 := match u with
  | (f_spares, f_root, f_entries, f_cap, f_room, f_accAdd, f_accLow, f_accHigh, a_left, a_right, a_up, a_count, a_kind, a_amount, a_isVoid, a_turnBelow, a_voidBelow, a_live, a_netAll, a_netLive, a_add, a_low, a_high, a_spare, a_copyKind, a_copyAmount, a_copyVoid) => (f_accAdd, f_accLow, f_accHigh)
section
variable {f_spares f_root f_entries f_cap f_room f_accAdd f_accLow f_accHigh : Int32} {a_left a_right a_up a_count a_kind a_amount a_isVoid a_turnBelow a_voidBelow a_live a_netAll a_netLive a_add a_low a_high a_spare a_copyKind a_copyAmount a_copyVoid : Nat → Int32}
theorem ls_goodX {n : Nat} {p0 p1 : Int32} {post : Int32 → Prop} (hn : f_entries = nI n) (K1 : ls_gd n p0 p1 → post 1) (K0 : ¬ ls_gd n p0 p1 → post 0) : wpX_good post (f_spares, f_root, f_entries, f_cap, f_room, f_accAdd, f_accLow, f_accHigh, a_left, a_right, a_up, a_count, a_kind, a_amount, a_isVoid, a_turnBelow, a_voidBelow, a_live, a_netAll, a_netLive, a_add, a_low, a_high, a_spare, a_copyKind, a_copyAmount, a_copyVoid) p0 p1 := by
  subst hn
  unfold wpX_good
  exact br_c (fun h => K0 fun g => g.1 h) (fun h => br_c (fun h' => K0 fun g => g.2.1 h') (fun h' => br_c (fun h'' => K0 fun g => g.2.2 h'') (fun h'' => K1 ⟨h, h', h''⟩)))
theorem ls_X_ent {cap room : Nat} {es : List ls_It} (hX : ls_X cap room es (f_spares, f_root, f_entries, f_cap, f_room, f_accAdd, f_accLow, f_accHigh, a_left, a_right, a_up, a_count, a_kind, a_amount, a_isVoid, a_turnBelow, a_voidBelow, a_live, a_netAll, a_netLive, a_add, a_low, a_high, a_spare, a_copyKind, a_copyAmount, a_copyVoid)) : f_entries = nI es.length ∧ f_cap = nI cap ∧ f_room = nI room ∧ f_spares = nI (40 - es.length) := by
  obtain ⟨h1, h2, h3, h4, h5, sp, ck, ca, cv, h6, _⟩ := hX
  have h6' : (f_spares, f_entries, f_cap, f_room, a_spare, a_copyKind, a_copyAmount, a_copyVoid) = (nI (40 - es.length), nI es.length, nI cap, nI room, sp, ck, ca, cv) := h6
  simp only [Prod.mk.injEq] at h6'
  exact ⟨h6'.2.1, h6'.2.2.1, h6'.2.2.2.1, h6'.1⟩
end
/-- a question about a block -/
theorem ls_Xq {u : SX} {cap room f t : Nat} {es : List ls_It} {q1 q2 : Int32} {post : Int32 → SX → Prop} (hX : ls_X cap room es u) (e1 : q1 = nI f) (e2 : q2 = nI t) (hft : f ≤ t) (ht : t ≤ es.length)
    (K : ∀ (u' : SX) (k a : Nat) (M E1 E2 : List ls_It), ls_X cap room es u' → ls_sc u' = ls_sc u → k < 43 → ls_T cap (ls_nv u') k a M → ls_Ag cap (ls_nv u' k).2 M → es = E1 ++ (M ++ E2) → E1.length = f → M.length = t - f → post (nI k) u') :
    wpX_isolate post u q1 q2 := by
  refine ls_Xiso hX.2.2.2.2.1 e1 e2 hft ht fun u' b a k P x M y Q E1 E2 hX' s1 r1 I1 h1 h2 h3 h4 h5 F1 => ?_
  have T1 := ls_Is_T I1
  exact K u' k a M E1 E2 (ls_X_upd hX s1 hX' rfl (fun _ => rfl)) s1 (ls_T_lt T1) T1 (ls_T_Ag T1 hX'.2.2.1) h1 h2 h3
theorem ls_X_liveCount {u : SX} {cap room : Nat} {es : List ls_It} {p0 p1 : Int32} {post : Int32 → SX → Prop} (hX : ls_X cap room es u) (K0 : ¬ ls_gd es.length p0 p1 → post (-1) u)
    (K1 : ∀ (f t : Nat) (u' : SX) (M E1 E2 : List ls_It) (r : Int32), ls_gd es.length p0 p1 → p0 = nI f → p1 = nI t → f ≤ t → t ≤ es.length → ls_X cap room es u' → es = E1 ++ (M ++ E2) → E1.length = f → M.length = t - f → r = nI (ls_lv M).length → post r u') :
    wpX_liveCount post u p0 p1 := by
  have hl := hX.2.2.2.1
  have hr := hX.2.2.1
  obtain ⟨f_spares, f_root, f_entries, f_cap, f_room, f_accAdd, f_accLow, f_accHigh, a_left, a_right, a_up, a_count, a_kind, a_amount, a_isVoid, a_turnBelow, a_voidBelow, a_live, a_netAll, a_netLive, a_add, a_low, a_high, a_spare, a_copyKind, a_copyAmount, a_copyVoid⟩ := u
  unfold wpX_liveCount
  refine ls_goodX (ls_X_ent hX).1 (fun g => br_f (by decide) ?_) (fun g => br_t rfl (K0 g))
  obtain ⟨f, t, e0, e1, hft, ht⟩ := ls_gd_nat (by omega) g
  refine ls_Xq hX e0 e1 hft ht fun u' k a M E1 E2 hX' s1 k43 T1 A1 h1 h2 h3 => ?_
  have ck := ls_cln (n := k) (by omega)
  obtain ⟨f_spares_1, f_root_1, f_entries_1, f_cap_1, f_room_1, f_accAdd_1, f_accLow_1, f_accHigh_1, a_left_1, a_right_1, a_up_1, a_count_1, a_kind_1, a_amount_1, a_isVoid_1, a_turnBelow_1, a_voidBelow_1, a_live_1, a_netAll_1, a_netLive_1, a_add_1, a_low_1, a_high_1, a_spare_1, a_copyKind_1, a_copyAmount_1, a_copyVoid_1⟩ := u'
  refine And.intro (ls_in43 k43) (K1 f t _ M E1 E2 _ g e0 e1 hft ht hX' h1 h2 h3 ?_)
  rw [ck]; exact A1.2.1
theorem ls_X_net {u : SX} {cap room : Nat} {es : List ls_It} {p0 p1 : Int32} {post : Int32 → SX → Prop} (hX : ls_X cap room es u) (K0 : ¬ ls_gd es.length p0 p1 → post (-100000) u)
    (K1 : ∀ (f t : Nat) (u' : SX) (M E1 E2 : List ls_It) (r : Int32), ls_gd es.length p0 p1 → p0 = nI f → p1 = nI t → f ≤ t → t ≤ es.length → ls_X cap room es u' → es = E1 ++ (M ++ E2) → E1.length = f → M.length = t - f → r.toInt = ls_nA (ls_lv M) → post r u') :
    wpX_net post u p0 p1 := by
  have hl := hX.2.2.2.1
  have hr := hX.2.2.1
  obtain ⟨f_spares, f_root, f_entries, f_cap, f_room, f_accAdd, f_accLow, f_accHigh, a_left, a_right, a_up, a_count, a_kind, a_amount, a_isVoid, a_turnBelow, a_voidBelow, a_live, a_netAll, a_netLive, a_add, a_low, a_high, a_spare, a_copyKind, a_copyAmount, a_copyVoid⟩ := u
  unfold wpX_net
  refine ls_goodX (ls_X_ent hX).1 (fun g => br_f (by decide) ?_) (fun g => br_t rfl (K0 g))
  obtain ⟨f, t, e0, e1, hft, ht⟩ := ls_gd_nat (by omega) g
  refine ls_Xq hX e0 e1 hft ht fun u' k a M E1 E2 hX' s1 k43 T1 A1 h1 h2 h3 => ?_
  have ck := ls_cln (n := k) (by omega)
  obtain ⟨f_spares_1, f_root_1, f_entries_1, f_cap_1, f_room_1, f_accAdd_1, f_accLow_1, f_accHigh_1, a_left_1, a_right_1, a_up_1, a_count_1, a_kind_1, a_amount_1, a_isVoid_1, a_turnBelow_1, a_voidBelow_1, a_live_1, a_netAll_1, a_netLive_1, a_add_1, a_low_1, a_high_1, a_spare_1, a_copyKind_1, a_copyAmount_1, a_copyVoid_1⟩ := u'
  refine And.intro (ls_in43 k43) (K1 f t _ M E1 E2 _ g e0 e1 hft ht hX' h1 h2 h3 ?_)
  rw [ck]; exact A1.2.2.2.1
/-- a position that is good -/
def ls_gp (n : Nat) (p : Int32) : Prop := ¬ p < 0 ∧ p < nI n
theorem ls_gp_nat {n : Nat} {p : Int32} (hn : n < 2 ^ 31) (h : ls_gp n p) : ∃ f, p = nI f ∧ f < n := by
  obtain ⟨f, hf, e⟩ := nI_of h.1
  have h2 := h.2
  rw [e, nI_ltI hf hn] at h2
  exact ⟨f, e, h2⟩
/-- a question about one entry -/
theorem ls_Xq1 {u : SX} {cap room f : Nat} {es : List ls_It} {q1 q2 : Int32} {post : Int32 → SX → Prop} (hX : ls_X cap room es u) (e1 : q1 = nI f) (e2 : q2 = nI f + 1) (hf : f < es.length)
    (K : ∀ (u' : SX) (k : Nat) (z : ls_It), ls_X cap room es u' → ls_sc u' = ls_sc u → k < 43 → es[f]? = some z → (∃ l r p t w, (ls_nv u' k).1 = ls_st l r p z t w) → post (nI k) u') :
    wpX_isolate post u q1 q2 := by
  refine ls_Xq hX e1 (e2.trans (nI_1 f)) (by omega) (by omega) fun u' k a M E1 E2 hX' s1 k43 T1 A1 h1 h2 h3 => ?_
  have hM : ∃ z, M = [z] := List.length_eq_one_iff.mp (by omega)
  obtain ⟨z, eM⟩ := hM
  subst eM
  obtain ⟨_, _, _, _, l, r, t, w, hst⟩ := ls_T_one T1
  refine K u' k z hX' s1 k43 ?_ ⟨l, r, a, t, w, hst⟩
  rw [h1, List.getElem?_append_right (by omega), ← h2, Nat.sub_self]; rfl
theorem ls_X_kindAt {u : SX} {cap room : Nat} {es : List ls_It} {p0 : Int32} {post : Int32 → SX → Prop} (hX : ls_X cap room es u) (K0 : ¬ ls_gp es.length p0 → post (-1) u)
    (K1 : ∀ (f : Nat) (u' : SX) (z : ls_It), ls_gp es.length p0 → p0 = nI f → f < es.length → ls_X cap room es u' → es[f]? = some z → post z.2.1 u') :
    wpX_kindAt post u p0 := by
  have hl := hX.2.2.2.1
  have hr := hX.2.2.1
  obtain ⟨f_spares, f_root, f_entries, f_cap, f_room, f_accAdd, f_accLow, f_accHigh, a_left, a_right, a_up, a_count, a_kind, a_amount, a_isVoid, a_turnBelow, a_voidBelow, a_live, a_netAll, a_netLive, a_add, a_low, a_high, a_spare, a_copyKind, a_copyAmount, a_copyVoid⟩ := u
  have en := (ls_X_ent hX).1
  unfold wpX_kindAt
  refine br_c (fun h => K0 fun g => g.1 h) (fun h => br_c (fun h' => ?_) (fun h' => K0 fun g => h' (by rw [en]; exact g.2)))
  have g : ls_gp es.length p0 := ⟨h, by rw [← en]; exact h'⟩
  obtain ⟨f, e0, hf⟩ := ls_gp_nat (by omega) g
  refine ls_Xq1 hX e0 (by rw [e0]) hf fun u' k z hX' s1 k43 hz hst => ?_
  obtain ⟨l, r, p, t, w, hst⟩ := hst
  have ck := ls_cln (n := k) (by omega)
  obtain ⟨f_spares_1, f_root_1, f_entries_1, f_cap_1, f_room_1, f_accAdd_1, f_accLow_1, f_accHigh_1, a_left_1, a_right_1, a_up_1, a_count_1, a_kind_1, a_amount_1, a_isVoid_1, a_turnBelow_1, a_voidBelow_1, a_live_1, a_netAll_1, a_netLive_1, a_add_1, a_low_1, a_high_1, a_spare_1, a_copyKind_1, a_copyAmount_1, a_copyVoid_1⟩ := u'
  have e : a_kind_1 k = z.2.1 := congrArg (fun z => z.2.2.2.1) hst
  refine And.intro (ls_in43 k43) ?_
  rw [ck, e]
  exact K1 f _ z g e0 hf hX' hz
theorem ls_X_amountAt {u : SX} {cap room : Nat} {es : List ls_It} {p0 : Int32} {post : Int32 → SX → Prop} (hX : ls_X cap room es u) (K0 : ¬ ls_gp es.length p0 → post (-1000) u)
    (K1 : ∀ (f : Nat) (u' : SX) (z : ls_It), ls_gp es.length p0 → p0 = nI f → f < es.length → ls_X cap room es u' → es[f]? = some z → post z.2.2.1 u') :
    wpX_amountAt post u p0 := by
  have hl := hX.2.2.2.1
  have hr := hX.2.2.1
  obtain ⟨f_spares, f_root, f_entries, f_cap, f_room, f_accAdd, f_accLow, f_accHigh, a_left, a_right, a_up, a_count, a_kind, a_amount, a_isVoid, a_turnBelow, a_voidBelow, a_live, a_netAll, a_netLive, a_add, a_low, a_high, a_spare, a_copyKind, a_copyAmount, a_copyVoid⟩ := u
  have en := (ls_X_ent hX).1
  unfold wpX_amountAt
  refine br_c (fun h => K0 fun g => g.1 h) (fun h => br_c (fun h' => ?_) (fun h' => K0 fun g => h' (by rw [en]; exact g.2)))
  have g : ls_gp es.length p0 := ⟨h, by rw [← en]; exact h'⟩
  obtain ⟨f, e0, hf⟩ := ls_gp_nat (by omega) g
  refine ls_Xq1 hX e0 (by rw [e0]) hf fun u' k z hX' s1 k43 hz hst => ?_
  obtain ⟨l, r, p, t, w, hst⟩ := hst
  have ck := ls_cln (n := k) (by omega)
  obtain ⟨f_spares_1, f_root_1, f_entries_1, f_cap_1, f_room_1, f_accAdd_1, f_accLow_1, f_accHigh_1, a_left_1, a_right_1, a_up_1, a_count_1, a_kind_1, a_amount_1, a_isVoid_1, a_turnBelow_1, a_voidBelow_1, a_live_1, a_netAll_1, a_netLive_1, a_add_1, a_low_1, a_high_1, a_spare_1, a_copyKind_1, a_copyAmount_1, a_copyVoid_1⟩ := u'
  have e : a_amount_1 k = z.2.2.1 := congrArg (fun z => z.2.2.2.2.1) hst
  refine And.intro (ls_in43 k43) ?_
  rw [ck, e]
  exact K1 f _ z g e0 hf hX' hz
theorem ls_X_voidAt {u : SX} {cap room : Nat} {es : List ls_It} {p0 : Int32} {post : Int32 → SX → Prop} (hX : ls_X cap room es u) (K0 : ¬ ls_gp es.length p0 → post (-1) u)
    (K1 : ∀ (f : Nat) (u' : SX) (z : ls_It), ls_gp es.length p0 → p0 = nI f → f < es.length → ls_X cap room es u' → es[f]? = some z → post (ls_b z.2.2.2) u') :
    wpX_voidAt post u p0 := by
  have hl := hX.2.2.2.1
  have hr := hX.2.2.1
  obtain ⟨f_spares, f_root, f_entries, f_cap, f_room, f_accAdd, f_accLow, f_accHigh, a_left, a_right, a_up, a_count, a_kind, a_amount, a_isVoid, a_turnBelow, a_voidBelow, a_live, a_netAll, a_netLive, a_add, a_low, a_high, a_spare, a_copyKind, a_copyAmount, a_copyVoid⟩ := u
  have en := (ls_X_ent hX).1
  unfold wpX_voidAt
  refine br_c (fun h => K0 fun g => g.1 h) (fun h => br_c (fun h' => ?_) (fun h' => K0 fun g => h' (by rw [en]; exact g.2)))
  have g : ls_gp es.length p0 := ⟨h, by rw [← en]; exact h'⟩
  obtain ⟨f, e0, hf⟩ := ls_gp_nat (by omega) g
  refine ls_Xq1 hX e0 (by rw [e0]) hf fun u' k z hX' s1 k43 hz hst => ?_
  obtain ⟨l, r, p, t, w, hst⟩ := hst
  have ck := ls_cln (n := k) (by omega)
  have fin := K1 f u' z g e0 hf hX' hz
  obtain ⟨f_spares_1, f_root_1, f_entries_1, f_cap_1, f_room_1, f_accAdd_1, f_accLow_1, f_accHigh_1, a_left_1, a_right_1, a_up_1, a_count_1, a_kind_1, a_amount_1, a_isVoid_1, a_turnBelow_1, a_voidBelow_1, a_live_1, a_netAll_1, a_netLive_1, a_add_1, a_low_1, a_high_1, a_spare_1, a_copyKind_1, a_copyAmount_1, a_copyVoid_1⟩ := u'
  have e : a_isVoid_1 k = ls_b z.2.2.2 := congrArg (fun z => z.2.2.2.2.2.1) hst
  refine And.intro (ls_in43 k43) (br_c (fun h0 => ?_) (fun h0 => ?_))
  · rw [ck, e, ls_b_eq0] at h0
    rw [h0] at fin; exact fin
  · rw [ck, e, ls_b_eq0] at h0
    rw [(Bool.not_eq_false _).mp h0] at fin; exact fin
theorem ls_X_load {u : SX} {cap room f t : Nat} {es : List ls_It} {p0 p1 : Int32} {post : SX → Prop} (hX : ls_X cap room es u) (e0 : p0 = nI f) (e1 : p1 = nI t) (hft : f ≤ t) (ht : t ≤ es.length)
    (K : ∀ (u' : SX) (M E1 E2 : List ls_It), ls_X cap room es u' → es = E1 ++ (M ++ E2) → E1.length = f → M.length = t - f → ls_Ee (ls_ac u') (ls_ef cap (ls_lv M)) → ls_oks cap M → post u') :
    wpX_load post u p0 p1 := by
  obtain ⟨f_spares, f_root, f_entries, f_cap, f_room, f_accAdd, f_accLow, f_accHigh, a_left, a_right, a_up, a_count, a_kind, a_amount, a_isVoid, a_turnBelow, a_voidBelow, a_live, a_netAll, a_netLive, a_add, a_low, a_high, a_spare, a_copyKind, a_copyAmount, a_copyVoid⟩ := u
  unfold wpX_load
  refine ls_Xq hX e0 e1 hft ht fun u' k a M E1 E2 hX' s1 k43 T1 A1 h1 h2 h3 => ?_
  have c2 : (nI (k * 4 + 2)).toNatClampNeg = k * 4 + 2 := ls_cln (by omega)
  have oM := ls_T_oks T1
  have hin : vp_in (nI (k * 4 + 2)) 172 := ls_in172 (by omega)
  have hX2 := ls_X_upd (u' := u') hX' rfl hX'.2.2.2.2.1 rfl (fun _ => rfl)
  obtain ⟨f_spares_1, f_root_1, f_entries_1, f_cap_1, f_room_1, f_accAdd_1, f_accLow_1, f_accHigh_1, a_left_1, a_right_1, a_up_1, a_count_1, a_kind_1, a_amount_1, a_isVoid_1, a_turnBelow_1, a_voidBelow_1, a_live_1, a_netAll_1, a_netLive_1, a_add_1, a_low_1, a_high_1, a_spare_1, a_copyKind_1, a_copyAmount_1, a_copyVoid_1⟩ := u'
  refine nm_r (e' := nI (k * 4 + 2)) (ls_mul4 k 2) (And.intro hin (nm_r (e' := a_add_1 (k * 4 + 2)) (by rw [c2]) (And.intro hin (nm_r (e' := a_low_1 (k * 4 + 2)) (by rw [c2]) (And.intro hin (nm_r (e' := a_high_1 (k * 4 + 2)) (by rw [c2])
    (K _ M E1 E2 ?_ h1 h2 h3 A1.2.2.2.2.2.2.1 oM)))))))
  exact hX2
end
section
/-! the class's methods that change the list -/
theorem ls_u1_mid {E1 E2 M M' : List ls_It} (hu : ls_u1 (ls_fl (E1 ++ (M ++ E2)))) (h : ∀ j, ls_ct j M' ≤ ls_ct j M) : ls_u1 (ls_fl (E1 ++ (M' ++ E2))) := by
  intro j
  have t := hu j
  have q := h j
  rw [ls_ct_fl, ls_ct_app, ls_ct_app] at t ⊢
  omega
theorem ls_u1_blk {E1 E2 M : List ls_It} (hu : ls_u1 (ls_fl (E1 ++ (M ++ E2)))) : ls_u1 M := by
  intro j
  have t := hu j
  rw [ls_ct_fl, ls_ct_app, ls_ct_app] at t
  omega
theorem ls_apart {P Q M E1 E2 : List ls_It} {x y : ls_It} (hu : ls_u1 (ls_fl (E1 ++ (M ++ E2)))) (h1 : P ++ [x] = ls_hd :: E1) (h2 : y :: Q = E2 ++ [ls_tl]) :
    ∀ j, 0 < ls_ct j (P ++ x :: (y :: Q)) → ls_ct j M = 0 := by
  intro j hj
  have t := hu j
  rw [← ls_fl_mid (M := M) h1 h2, ls_ct_app, ls_ct_cons, ls_ct_app] at t
  rw [ls_ct_app, ls_ct_cons] at hj
  omega
theorem ls_X_reverse {u : SX} {cap room : Nat} {es : List ls_It} {p0 p1 : Int32} {post : Int32 → SX → Prop} (hX : ls_X cap room es u) (K0 : ¬ ls_gd es.length p0 p1 → post (-1) u)
    (K1 : ∀ (f t : Nat) (u' : SX) (M E1 E2 : List ls_It), ls_gd es.length p0 p1 → p0 = nI f → p1 = nI t → f ≤ t → t ≤ es.length → es = E1 ++ (M ++ E2) → E1.length = f → M.length = t - f → ls_X cap room (E1 ++ (M.reverse ++ E2)) u' → post (p1 - p0) u') :
    wpX_reverse post u p0 p1 := by
  have hl := hX.2.2.2.1
  have hr := hX.2.2.1
  obtain ⟨f_spares, f_root, f_entries, f_cap, f_room, f_accAdd, f_accLow, f_accHigh, a_left, a_right, a_up, a_count, a_kind, a_amount, a_isVoid, a_turnBelow, a_voidBelow, a_live, a_netAll, a_netLive, a_add, a_low, a_high, a_spare, a_copyKind, a_copyAmount, a_copyVoid⟩ := u
  unfold wpX_reverse
  refine ls_goodX (ls_X_ent hX).1 (fun g => br_f (by decide) ?_) (fun g => br_t rfl (K0 g))
  obtain ⟨f, t, e0, e1, hft, ht⟩ := ls_gd_nat (by omega) g
  refine ls_Xiso hX.2.2.2.2.1 e0 e1 hft ht fun u1 b a k P x M y Q E1 E2 hX1 s1 r1 I1 h1 h2 h3 h4 h5 F1 => ?_
  have T1 := ls_Is_T I1
  have W1 := ls_Is_W I1
  have hu := hX1.2.2.2.2.1
  rw [h1] at hu
  obtain ⟨f_spares_1, f_root_1, f_entries_1, f_cap_1, f_room_1, f_accAdd_1, f_accLow_1, f_accHigh_1, a_left_1, a_right_1, a_up_1, a_count_1, a_kind_1, a_amount_1, a_isVoid_1, a_turnBelow_1, a_voidBelow_1, a_live_1, a_netAll_1, a_netLive_1, a_add_1, a_low_1, a_high_1, a_spare_1, a_copyKind_1, a_copyAmount_1, a_copyVoid_1⟩ := u1
  refine ls_turnT (n := k) (p := a) (S := M) rfl T1 (ls_u1_blk hu) fun u2 s2 r2 T2 F2 => ?_
  have W2 := ls_IW_fr (g' := ls_nv u2) W1 fun j hj => F2 j (ls_apart hu h4 h5 j hj)
  have h02 : ls_Ag cap (ls_nv u2 0).2 [] := by rw [F2 0 (ls_u1_0 T1)]; exact hX1.2.2.1
  have hct : ∀ j, ls_ct j (E1 ++ (M.reverse ++ E2)) = ls_ct j es := by intro j; rw [h1, ls_ct_app, ls_ct_app, ls_ct_app, ls_ct_app, ls_ct_rev]
  have hlen : (E1 ++ (M.reverse ++ E2)).length = es.length := by
    rw [h1, List.length_append, List.length_append, List.length_append, List.length_append, List.length_reverse]
  have r2' := r2.trans r1
  obtain ⟨f_spares_2, f_root_2, f_entries_2, f_cap_2, f_room_2, f_accAdd_2, f_accLow_2, f_accHigh_2, a_left_2, a_right_2, a_up_2, a_count_2, a_kind_2, a_amount_2, a_isVoid_2, a_turnBelow_2, a_voidBelow_2, a_live_2, a_netAll_2, a_netLive_2, a_add_2, a_low_2, a_high_2, a_spare_2, a_copyKind_2, a_copyAmount_2, a_copyVoid_2⟩ := u2
  refine ls_Xhang hX1 s2 h02 rfl r2' W2 T2 h4 h5 (ls_u1_mid hu fun j => by rw [ls_ct_rev]; omega) (by omega) fun u3 hX3 s3 F3 => ?_
  have fin := K1 f t u3 M E1 E2 g e0 e1 hft ht h1 h2 h3 (ls_X_upd hX (s3.trans s1) hX3 hlen hct)
  obtain ⟨f_spares_3, f_root_3, f_entries_3, f_cap_3, f_room_3, f_accAdd_3, f_accLow_3, f_accHigh_3, a_left_3, a_right_3, a_up_3, a_count_3, a_kind_3, a_amount_3, a_isVoid_3, a_turnBelow_3, a_voidBelow_3, a_live_3, a_netAll_3, a_netLive_3, a_add_3, a_low_3, a_high_3, a_spare_3, a_copyKind_3, a_copyAmount_3, a_copyVoid_3⟩ := u3
  exact fin
theorem ls_X_setVoid {u : SX} {cap room : Nat} {es : List ls_It} {p0 p1 p2 : Int32} {post : Int32 → SX → Prop} (hX : ls_X cap room es u) (K0 : ¬ ls_gd es.length p0 p1 → post (-1) u)
    (K1 : ∀ (f t : Nat) (u' : SX) (M E1 E2 : List ls_It) (b : Bool) (r : Int32), ls_gd es.length p0 p1 → p0 = nI f → p1 = nI t → f ≤ t → t ≤ es.length → es = E1 ++ (M ++ E2) → E1.length = f → M.length = t - f → (p2 = 0 ↔ b = false) →
      r = nI (if b then (ls_lv M).length else M.length - (ls_lv M).length) → ls_X cap room (E1 ++ (M.map (ls_sv b) ++ E2)) u' → post r u') :
    wpX_setVoid post u p0 p1 p2 := by
  have hl := hX.2.2.2.1
  have hr := hX.2.2.1
  obtain ⟨f_spares, f_root, f_entries, f_cap, f_room, f_accAdd, f_accLow, f_accHigh, a_left, a_right, a_up, a_count, a_kind, a_amount, a_isVoid, a_turnBelow, a_voidBelow, a_live, a_netAll, a_netLive, a_add, a_low, a_high, a_spare, a_copyKind, a_copyAmount, a_copyVoid⟩ := u
  unfold wpX_setVoid
  refine ls_goodX (ls_X_ent hX).1 (fun g => br_f (by decide) ?_) (fun g => br_t rfl (K0 g))
  obtain ⟨f, t, e0, e1, hft, ht⟩ := ls_gd_nat (by omega) g
  refine ls_Xiso hX.2.2.2.2.1 e0 e1 hft ht fun u1 b a k P x M y Q E1 E2 hX1 s1 r1 I1 h1 h2 h3 h4 h5 F1 => ?_
  have T1 := ls_Is_T I1
  have W1 := ls_Is_W I1
  have A1 := ls_T_Ag T1 hX1.2.2.1
  have hu := hX1.2.2.2.2.1
  rw [h1] at hu
  have k43 := ls_T_lt T1
  have hin := ls_in43 k43
  have ck := ls_cln (n := k) (by omega)
  have lvM := ls_lv_le (A := M)
  have fin : ∀ (d : Bool) (z0 zr : Int32), (p2 = 0 ↔ d = false) → z0 = ls_b d → zr = nI (if d then (ls_lv M).length else M.length - (ls_lv M).length) →
      (match u1 with | (f_spares_1, f_root_1, f_entries_1, f_cap_1, f_room_1, f_accAdd_1, f_accLow_1, f_accHigh_1, a_left_1, a_right_1, a_up_1, a_count_1, a_kind_1, a_amount_1, a_isVoid_1, a_turnBelow_1, a_voidBelow_1, a_live_1, a_netAll_1, a_netLive_1, a_add_1, a_low_1, a_high_1, a_spare_1, a_copyKind_1, a_copyAmount_1, a_copyVoid_1) => wX_setVoid_62 post (nI k) zr z0 (nI k) f_spares_1 f_root_1 f_entries_1 f_cap_1 f_room_1 f_accAdd_1 f_accLow_1 f_accHigh_1 a_left_1 a_right_1 a_up_1 a_count_1 a_kind_1 a_amount_1 a_isVoid_1 a_turnBelow_1 a_voidBelow_1 a_live_1 a_netAll_1 a_netLive_1 a_add_1 a_low_1 a_high_1 a_spare_1 a_copyKind_1 a_copyAmount_1 a_copyVoid_1) := by
    intro d z0 zr hd hz0 hzr
    have hct : ∀ j, ls_ct j (E1 ++ (M.map (ls_sv d) ++ E2)) = ls_ct j es := by intro j; rw [h1, ls_ct_app, ls_ct_app, ls_ct_app, ls_ct_app, ls_ct_sv]
    have hlen : (E1 ++ (M.map (ls_sv d) ++ E2)).length = es.length := by
      rw [h1, List.length_append, List.length_append, List.length_append, List.length_append, List.length_map]
    obtain ⟨f_spares_1, f_root_1, f_entries_1, f_cap_1, f_room_1, f_accAdd_1, f_accLow_1, f_accHigh_1, a_left_1, a_right_1, a_up_1, a_count_1, a_kind_1, a_amount_1, a_isVoid_1, a_turnBelow_1, a_voidBelow_1, a_live_1, a_netAll_1, a_netLive_1, a_add_1, a_low_1, a_high_1, a_spare_1, a_copyKind_1, a_copyAmount_1, a_copyVoid_1⟩ := u1
    show wX_setVoid_62 post (nI k) zr z0 (nI k) f_spares_1 f_root_1 f_entries_1 f_cap_1 f_room_1 f_accAdd_1 f_accLow_1 f_accHigh_1 a_left_1 a_right_1 a_up_1 a_count_1 a_kind_1 a_amount_1 a_isVoid_1 a_turnBelow_1 a_voidBelow_1 a_live_1 a_netAll_1 a_netLive_1 a_add_1 a_low_1 a_high_1 a_spare_1 a_copyKind_1 a_copyAmount_1 a_copyVoid_1
    unfold wX_setVoid_62
    refine ls_paintT (n := k) (p := a) (S := M) (b := d) rfl hz0 hX1.1 hX1.2.1 T1 (ls_u1_blk hu) fun u2 s2 r2 T2 F2 => ?_
    have W2 := ls_IW_fr (g' := ls_nv u2) W1 fun j hj => F2 j (ls_apart hu h4 h5 j hj)
    have h02 : ls_Ag cap (ls_nv u2 0).2 [] := by rw [F2 0 (ls_u1_0 T1)]; exact hX1.2.2.1
    have r2' := r2.trans r1
    obtain ⟨f_spares_2, f_root_2, f_entries_2, f_cap_2, f_room_2, f_accAdd_2, f_accLow_2, f_accHigh_2, a_left_2, a_right_2, a_up_2, a_count_2, a_kind_2, a_amount_2, a_isVoid_2, a_turnBelow_2, a_voidBelow_2, a_live_2, a_netAll_2, a_netLive_2, a_add_2, a_low_2, a_high_2, a_spare_2, a_copyKind_2, a_copyAmount_2, a_copyVoid_2⟩ := u2
    refine ls_Xhang hX1 s2 h02 rfl r2' W2 T2 h4 h5 (ls_u1_mid hu fun j => by rw [ls_ct_sv]; omega) (by omega) fun u3 hX3 s3 F3 => ?_
    have fin := K1 f t u3 M E1 E2 d zr g e0 e1 hft ht h1 h2 h3 hd hzr (ls_X_upd hX (s3.trans s1) hX3 hlen hct)
    obtain ⟨f_spares_3, f_root_3, f_entries_3, f_cap_3, f_room_3, f_accAdd_3, f_accLow_3, f_accHigh_3, a_left_3, a_right_3, a_up_3, a_count_3, a_kind_3, a_amount_3, a_isVoid_3, a_turnBelow_3, a_voidBelow_3, a_live_3, a_netAll_3, a_netLive_3, a_add_3, a_low_3, a_high_3, a_spare_3, a_copyKind_3, a_copyAmount_3, a_copyVoid_3⟩ := u3
    exact fin
  obtain ⟨f_spares_1, f_root_1, f_entries_1, f_cap_1, f_room_1, f_accAdd_1, f_accLow_1, f_accHigh_1, a_left_1, a_right_1, a_up_1, a_count_1, a_kind_1, a_amount_1, a_isVoid_1, a_turnBelow_1, a_voidBelow_1, a_live_1, a_netAll_1, a_netLive_1, a_add_1, a_low_1, a_high_1, a_spare_1, a_copyKind_1, a_copyAmount_1, a_copyVoid_1⟩ := u1
  have c1 : a_count_1 (nI k).toNatClampNeg = nI M.length := by rw [ck]; exact A1.1
  have c2 : a_live_1 (nI k).toNatClampNeg = nI (ls_lv M).length := by rw [ck]; exact A1.2.1
  refine br_c (fun h => And.intro hin (And.intro hin ?_)) (fun h => And.intro hin ?_)
  · unfold wX_setVoid_48
    refine br_t h (fin false _ _ ⟨fun _ => rfl, fun _ => h⟩ rfl ?_)
    rw [c1, c2, ls_sub lvM]; rfl
  · unfold wX_setVoid_48
    refine br_f h (fin true _ _ ⟨fun q => absurd q h, fun q => by cases q⟩ rfl ?_)
    rw [c2]; rfl
section
variable {f_spares f_root f_entries f_cap f_room f_accAdd f_accLow f_accHigh : Int32} {a_left a_right a_up a_count a_kind a_amount a_isVoid a_turnBelow a_voidBelow a_live a_netAll a_netLive a_add a_low a_high a_spare a_copyKind a_copyAmount a_copyVoid : Nat → Int32}
variable {f_spares' f_entries' f_room' f_accAdd' f_accLow' f_accHigh' : Int32} {a_spare' a_copyKind' a_copyAmount' a_copyVoid' : Nat → Int32}
theorem ls_XcX {cap : Nat} {es : List ls_It} (h : ls_Xc cap es (f_spares, f_root, f_entries, f_cap, f_room, f_accAdd, f_accLow, f_accHigh, a_left, a_right, a_up, a_count, a_kind, a_amount, a_isVoid, a_turnBelow, a_voidBelow, a_live, a_netAll, a_netLive, a_add, a_low, a_high, a_spare, a_copyKind, a_copyAmount, a_copyVoid)) : ls_Xc cap es (f_spares', f_root, f_entries', f_cap, f_room', f_accAdd', f_accLow', f_accHigh', a_left, a_right, a_up, a_count, a_kind, a_amount, a_isVoid, a_turnBelow, a_voidBelow, a_live, a_netAll, a_netLive, a_add, a_low, a_high, a_spare', a_copyKind', a_copyAmount', a_copyVoid') := h
theorem ls_scE : ls_sc (f_spares, f_root, f_entries, f_cap, f_room, f_accAdd, f_accLow, f_accHigh, a_left, a_right, a_up, a_count, a_kind, a_amount, a_isVoid, a_turnBelow, a_voidBelow, a_live, a_netAll, a_netLive, a_add, a_low, a_high, a_spare, a_copyKind, a_copyAmount, a_copyVoid) = (f_spares, f_entries, f_cap, f_room, a_spare, a_copyKind, a_copyAmount, a_copyVoid) := rfl
end
theorem ls_X_remove {u : SX} {cap room : Nat} {es : List ls_It} {p0 : Int32} {post : Int32 → SX → Prop} (hX : ls_X cap room es u) (K0 : ¬ ls_gp es.length p0 → post (-1) u)
    (K1 : ∀ (f : Nat) (u' : SX) (z : ls_It) (E1 E2 : List ls_It), ls_gp es.length p0 → p0 = nI f → f < es.length → es = E1 ++ z :: E2 → E1.length = f → ls_X cap room (E1 ++ E2) u' → post z.2.1 u') :
    wpX_remove post u p0 := by
  have hl := hX.2.2.2.1
  have hr := hX.2.2.1
  obtain ⟨g1, g2, g3, g4, hXc, sp, ck, ca, cv, hsc, s, hs1, hs2⟩ := id hX
  obtain ⟨f_spares, f_root, f_entries, f_cap, f_room, f_accAdd, f_accLow, f_accHigh, a_left, a_right, a_up, a_count, a_kind, a_amount, a_isVoid, a_turnBelow, a_voidBelow, a_live, a_netAll, a_netLive, a_add, a_low, a_high, a_spare, a_copyKind, a_copyAmount, a_copyVoid⟩ := u
  have en := (ls_X_ent hX).1
  unfold wpX_remove
  refine br_c (fun h => K0 fun g => g.1 h) (fun h => br_c (fun h' => ?_) (fun h' => K0 fun g => h' (by rw [en]; exact g.2)))
  have g : ls_gp es.length p0 := ⟨h, by rw [← en]; exact h'⟩
  obtain ⟨f, e0, hf⟩ := ls_gp_nat (by omega) g
  refine ls_Xiso hXc e0 (t := f + 1) (by rw [e0]; exact nI_1 f) (by omega) (by omega) fun u1 b a k P x M y Q E1 E2 hX1 s1 r1 I1 h1 h2 h3 h4 h5 F1 => ?_
  obtain ⟨z, eM⟩ := List.length_eq_one_iff.mp (show M.length = 1 by omega)
  subst eM
  have T1 := ls_Is_T I1
  have W1 := ls_Is_W I1
  obtain ⟨k0, k43, ezk, oz, lz, rz, tz, wz, hst⟩ := ls_T_one T1
  have hu := hX1.2.2.2.2.1
  rw [h1] at hu
  have hk2 : 2 < k := by
    have t1 := hu 1
    have t2 := hu 2
    rw [ls_ct_fl, ls_ct_app, ls_ct_app, ls_ct_cons, ls_ct_nil, if_pos rfl] at t1
    rw [ls_ct_fl, ls_ct_app, ls_ct_app, ls_ct_cons, ls_ct_nil, if_pos rfl] at t2
    have n1 : z.1 ≠ 1 := fun e => by rw [if_pos e] at t1; omega
    have n2 : z.1 ≠ 2 := fun e => by rw [if_pos e] at t2; omega
    omega
  have hctk : ls_ct k (ls_fl (E1 ++ ([] ++ E2))) = 0 := by
    have t := hu k
    rw [ls_ct_fl, ls_ct_app, ls_ct_app, ls_ct_self ezk] at t
    rw [ls_ct_fl, ls_ct_app, ls_ct_app, ls_ct_nil]
    omega
  have eE : E1 ++ ([z] ++ E2) = E1 ++ z :: E2 := rfl
  have len : es.length = E1.length + (E2.length + 1) := by rw [h1, eE, List.length_append, List.length_cons]
  have lE : (E1 ++ ([] ++ E2)).length = es.length - 1 := by rw [List.nil_append, List.length_append]; omega
  obtain ⟨f_spares_1, f_root_1, f_entries_1, f_cap_1, f_room_1, f_accAdd_1, f_accLow_1, f_accHigh_1, a_left_1, a_right_1, a_up_1, a_count_1, a_kind_1, a_amount_1, a_isVoid_1, a_turnBelow_1, a_voidBelow_1, a_live_1, a_netAll_1, a_netLive_1, a_add_1, a_low_1, a_high_1, a_spare_1, a_copyKind_1, a_copyAmount_1, a_copyVoid_1⟩ := u1
  refine ls_Xhang (M' := []) (k := 0) (q := 0) hX1 rfl hX1.2.2.1 nI_0.symm r1 W1 (ls_T_nil 0) h4 h5 (ls_u1_mid hu fun j => by rw [ls_ct_nil]; omega) (by omega) fun u3 hX3 s3 F3 => ?_
  have hk3 := F3 k hctk
  have s3' := (s3.trans s1).trans hsc
  obtain ⟨f_spares_3, f_root_3, f_entries_3, f_cap_3, f_room_3, f_accAdd_3, f_accLow_3, f_accHigh_3, a_left_3, a_right_3, a_up_3, a_count_3, a_kind_3, a_amount_3, a_isVoid_3, a_turnBelow_3, a_voidBelow_3, a_live_3, a_netAll_3, a_netLive_3, a_add_3, a_low_3, a_high_3, a_spare_3, a_copyKind_3, a_copyAmount_3, a_copyVoid_3⟩ := u3
  have s4 : (f_spares_3, f_entries_3, f_cap_3, f_room_3, a_spare_3, a_copyKind_3, a_copyAmount_3, a_copyVoid_3) = (nI (40 - es.length), nI es.length, nI cap, nI room, sp, ck, ca, cv) := s3'
  simp only [Prod.mk.injEq] at s4
  obtain ⟨q1, q2, q3, q4, q5, q6, q7, q8⟩ := s4
  subst q1; subst q2; subst q3; subst q4; subst q5
  have hk : a_kind_3 k = z.2.1 := (congrArg (fun w => w.1.2.2.2.1) hk3).trans (congrArg (fun w => w.2.2.2.1) hst)
  have ck := ls_cln (n := k) (by omega)
  have cs := ls_cln (n := 40 - es.length) (by omega)
  refine And.intro (ls_in43 (by omega)) (nm_r (e' := upd a_spare_3 (40 - es.length) (nI k)) (by rw [cs]) (nm_r (e' := nI (40 - es.length + 1)) (nI_1 _) (nm_r (e' := nI (es.length - 1)) ?_ (And.intro (ls_in43 k43) ?_))))
  · exact ls_sub (a := es.length) (b := 1) (by omega)
  · rw [ck, hk]
    refine K1 f _ z E1 E2 g e0 hf h1 h2 ⟨g1, g2, g3, ?_, ls_XcX hX3, upd a_spare_3 (40 - es.length) (nI k), a_copyKind_3, a_copyAmount_3, a_copyVoid_3, ?_, fun j => if j = 40 - es.length then k else s j, ?_, ?_⟩
    · rw [List.length_append]; omega
    · rw [ls_scE, List.length_append]
      have w1 : 40 - es.length + 1 = 40 - (E1.length + E2.length) := by omega
      have w2 : es.length - 1 = E1.length + E2.length := by omega
      rw [w1, w2]
    · intro j hj
      dsimp only
      rw [List.length_append] at hj
      by_cases ej : j = 40 - es.length
      · rw [if_pos ej, ls_us ej]
        rw [ls_ct_fl, ls_ct_app, ls_ct_app, ls_ct_nil] at hctk
        refine ⟨rfl, hk2, k43, ?_⟩
        rw [ls_ct_app]; omega
      · rw [if_neg ej, ls_un ej]
        obtain ⟨w1, w2, w3, w4⟩ := hs1 j (by omega)
        refine ⟨w1, w2, w3, ?_⟩
        rw [h1, ls_ct_app, ls_ct_app] at w4
        rw [ls_ct_app]; omega
    · intro i j hi hj
      dsimp only
      rw [List.length_append] at hj
      have ni : i ≠ 40 - es.length := by omega
      rw [if_neg ni]
      by_cases ej : j = 40 - es.length
      · rw [if_pos ej]
        intro e
        obtain ⟨w1, w2, w3, w4⟩ := hs1 i (by omega)
        rw [e, h1, ls_ct_app, ls_ct_app, ls_ct_self ezk] at w4
        omega
      · rw [if_neg ej]
        exact hs2 i j hi (by omega)
end
section
/-! place, insert, move -/
/-- the copies kept aside -/
def ls_cy (u : SX) : (Nat → Int32) × (Nat → Int32) × (Nat → Int32) := match u with
  | (f_spares, f_root, f_entries, f_cap, f_room, f_accAdd, f_accLow, f_accHigh, a_left, a_right, a_up, a_count, a_kind, a_amount, a_isVoid, a_turnBelow, a_voidBelow, a_live, a_netAll, a_netLive, a_add, a_low, a_high, a_spare, a_copyKind, a_copyAmount, a_copyVoid) => (a_copyKind, a_copyAmount, a_copyVoid)
theorem ls_cy_sc {u u' : SX} (h : ls_sc u' = ls_sc u) : ls_cy u' = ls_cy u := by
  obtain ⟨f_spares_1, f_root_1, f_entries_1, f_cap_1, f_room_1, f_accAdd_1, f_accLow_1, f_accHigh_1, a_left_1, a_right_1, a_up_1, a_count_1, a_kind_1, a_amount_1, a_isVoid_1, a_turnBelow_1, a_voidBelow_1, a_live_1, a_netAll_1, a_netLive_1, a_add_1, a_low_1, a_high_1, a_spare_1, a_copyKind_1, a_copyAmount_1, a_copyVoid_1⟩ := u
  obtain ⟨f_spares_2, f_root_2, f_entries_2, f_cap_2, f_room_2, f_accAdd_2, f_accLow_2, f_accHigh_2, a_left_2, a_right_2, a_up_2, a_count_2, a_kind_2, a_amount_2, a_isVoid_2, a_turnBelow_2, a_voidBelow_2, a_live_2, a_netAll_2, a_netLive_2, a_add_2, a_low_2, a_high_2, a_spare_2, a_copyKind_2, a_copyAmount_2, a_copyVoid_2⟩ := u'
  exact congrArg (fun z => z.2.2.2.2.2) h
theorem ls_X_oks {cap room : Nat} {es : List ls_It} {u : SX} (hX : ls_X cap room es u) : ls_oks cap es := by
  obtain ⟨b, _, hT⟩ := hX.2.2.2.2.1.2.2.2.1
  have := (ls_oks_c (ls_T_oks hT)).2
  exact (ls_oks_app.mp this).1
theorem ls_X_place {u : SX} {cap room pos : Nat} {es : List ls_It} {v : Bool} {p0 p1 p2 p3 : Int32} {post : SX → Prop} (hX : ls_X cap room es u) (hroom : es.length < room) (e0 : p0 = nI pos) (hpos : pos ≤ es.length) (e3 : p3 = ls_b v)
    (ok : ∀ n, ls_ok cap (n, p1, p2, v))
    (K : ∀ (u' : SX) (n : Nat) (E1 E2 : List ls_It), es = E1 ++ E2 → E1.length = pos → ls_X cap room (E1 ++ (n, p1, p2, v) :: E2) u' → ls_cy u' = ls_cy u → post u') :
    wpX_place post u p0 p1 p2 p3 := by
  obtain ⟨g1, g2, g3, g4, hXc, sp, ck, ca, cv, hsc, s, hs1, hs2⟩ := id hX
  obtain ⟨hc, hcap, h0, ⟨b0, hro, hT⟩, hu, hl40⟩ := id hXc
  have cyE : ls_cy u = (ck, ca, cv) := by
    obtain ⟨f_spares, f_root, f_entries, f_cap, f_room, f_accAdd, f_accLow, f_accHigh, a_left, a_right, a_up, a_count, a_kind, a_amount, a_isVoid, a_turnBelow, a_voidBelow, a_live, a_netAll, a_netLive, a_add, a_low, a_high, a_spare, a_copyKind, a_copyAmount, a_copyVoid⟩ := u
    exact congrArg (fun z => z.2.2.2.2.2) hsc
  obtain ⟨f_spares, f_root, f_entries, f_cap, f_room, f_accAdd, f_accLow, f_accHigh, a_left, a_right, a_up, a_count, a_kind, a_amount, a_isVoid, a_turnBelow, a_voidBelow, a_live, a_netAll, a_netLive, a_add, a_low, a_high, a_spare, a_copyKind, a_copyAmount, a_copyVoid⟩ := u
  have s4 : (f_spares, f_entries, f_cap, f_room, a_spare, a_copyKind, a_copyAmount, a_copyVoid) = (nI (40 - es.length), nI es.length, nI cap, nI room, sp, ck, ca, cv) := hsc
  simp only [Prod.mk.injEq] at s4
  obtain ⟨q1, q2, q3, q4, q5, q6, q7, q8⟩ := s4
  obtain ⟨n1, n2, n3, n4⟩ := hs1 (39 - es.length) (by omega)
  have hn : ls_ct (s (39 - es.length)) (ls_fl es) = 0 := by
    rw [ls_ct_fl, if_neg (by omega), if_neg (by omega)]; omega
  have cs := ls_cln (n := 39 - es.length) (by omega)
  have hcap' : f_cap = nI cap := hcap
  unfold wpX_place
  refine nm_r (e' := nI (39 - es.length)) ?_ ⟨ls_in43 (by omega), nm_r (e' := nI (s (39 - es.length))) (by rw [cs, q5]; exact n1) ?_⟩
  · rw [q1]
    have := ls_sub (a := 40 - es.length) (b := 1) (by omega)
    rw [show 40 - es.length - 1 = 39 - es.length by omega] at this
    exact this
  obtain ⟨n, hn'⟩ : ∃ n, n = s (39 - es.length) := ⟨_, rfl⟩
  rw [← hn'] at n1 n2 n3 n4 hn ⊢
  refine ls_setUp (u := (nI (39 - es.length), f_root, f_entries, f_cap, f_room, f_accAdd, f_accLow, f_accHigh, a_left, a_right, a_up, a_count, a_kind, a_amount, a_isVoid, a_turnBelow, a_voidBelow, a_live, a_netAll, a_netLive, a_add, a_low, a_high, a_spare, a_copyKind, a_copyAmount, a_copyVoid)) (cap := cap) (n := n) (v := v) rfl e3 hc hcap' (by omega) n3 h0 (ok n) fun u1 s1 r1 O1 F1 => ?_
  have T1 : ls_T cap (ls_nv u1) b0 0 (ls_fl es) := ls_T_fr hT fun j hj => F1 j (fun e => by rw [e] at hj; omega)
  have z0 := ls_u1_0 hT
  have Xc1 : ls_Xc cap es u1 := ⟨hc, (ls_cp_sc s1).trans hcap', by rw [F1 0 (by omega)]; exact h0, ⟨b0, r1.trans hro, T1⟩, hu, hl40⟩
  have Tn := ls_On_T O1
  have s1' : ls_sc u1 = (nI (39 - es.length), nI es.length, nI cap, nI room, sp, ck, ca, cv) := by
    rw [s1, ls_scE, q2, q3, q4, q5, q6, q7, q8]
  obtain ⟨f_spares_1, f_root_1, f_entries_1, f_cap_1, f_room_1, f_accAdd_1, f_accLow_1, f_accHigh_1, a_left_1, a_right_1, a_up_1, a_count_1, a_kind_1, a_amount_1, a_isVoid_1, a_turnBelow_1, a_voidBelow_1, a_live_1, a_netAll_1, a_netLive_1, a_add_1, a_low_1, a_high_1, a_spare_1, a_copyKind_1, a_copyAmount_1, a_copyVoid_1⟩ := u1
  refine ls_Xiso Xc1 e0 e0 (Nat.le_refl _) hpos fun u2 b a k P x M y Q E1 E2 hX2 s2 r2 I2 h1 h2 h3 h4 h5 F2 => ?_
  have eM : M = [] := List.length_eq_zero_iff.mp (by omega)
  subst eM
  rw [List.nil_append] at h1
  have W2 := ls_Is_W I2
  have Tn2 : ls_T cap (ls_nv u2) n 0 ([] ++ (n, p1, p2, v) :: []) := ls_T_fr Tn fun j hj => F2 j (by
    have : j = n := by
      rw [List.nil_append, ls_ct_cons, ls_ct_nil] at hj
      by_cases e : n = j
      · exact e.symm
      · rw [if_neg e] at hj; omega
    rw [this]; exact hn)
  have hu' : ls_u1 (ls_fl (E1 ++ (([] ++ (n, p1, p2, v) :: []) ++ E2))) := by
    intro j
    have t := hu j
    rw [ls_ct_fl, h1, ls_ct_app] at t
    rw [ls_ct_fl, ls_ct_app, ls_ct_app, List.nil_append, ls_ct_cons, ls_ct_nil]
    by_cases e : n = j
    · rw [← e] at t ⊢
      rw [ls_ct_fl, h1, ls_ct_app] at hn
      rw [if_pos rfl]; omega
    · rw [if_neg e]; omega
  have hl' : (E1 ++ (([] ++ (n, p1, p2, v) :: []) ++ E2)).length = es.length + 1 := by
    rw [h1, List.nil_append, List.length_append, List.length_append, List.length_append, List.length_singleton]; omega
  have s2' := s2.trans s1'
  obtain ⟨f_spares_2, f_root_2, f_entries_2, f_cap_2, f_room_2, f_accAdd_2, f_accLow_2, f_accHigh_2, a_left_2, a_right_2, a_up_2, a_count_2, a_kind_2, a_amount_2, a_isVoid_2, a_turnBelow_2, a_voidBelow_2, a_live_2, a_netAll_2, a_netLive_2, a_add_2, a_low_2, a_high_2, a_spare_2, a_copyKind_2, a_copyAmount_2, a_copyVoid_2⟩ := u2
  refine ls_Xhang (k := n) (q := 0) hX2 rfl hX2.2.2.1 rfl r2 W2 Tn2 h4 h5 hu' (by omega) fun u3 hX3 s3 F3 => ?_
  have s3' := s3.trans s2'
  obtain ⟨f_spares_3, f_root_3, f_entries_3, f_cap_3, f_room_3, f_accAdd_3, f_accLow_3, f_accHigh_3, a_left_3, a_right_3, a_up_3, a_count_3, a_kind_3, a_amount_3, a_isVoid_3, a_turnBelow_3, a_voidBelow_3, a_live_3, a_netAll_3, a_netLive_3, a_add_3, a_low_3, a_high_3, a_spare_3, a_copyKind_3, a_copyAmount_3, a_copyVoid_3⟩ := u3
  have s5 : (f_spares_3, f_entries_3, f_cap_3, f_room_3, a_spare_3, a_copyKind_3, a_copyAmount_3, a_copyVoid_3) = (nI (39 - es.length), nI es.length, nI cap, nI room, sp, ck, ca, cv) := s3'
  simp only [Prod.mk.injEq] at s5
  obtain ⟨w1, w2, w3, w4, w5, w6, w7, w8⟩ := s5
  refine nm_r (e' := nI (es.length + 1)) (by rw [w2]; exact nI_1 _) (K _ n E1 E2 h1 h2 ⟨g1, g2, g3, ?_, ls_XcX hX3, sp, ck, ca, cv, ?_, s, ?_, ?_⟩ ?_)
  · have : (E1 ++ (n, p1, p2, v) :: E2).length = es.length + 1 := hl'
    omega
  · have : (E1 ++ (n, p1, p2, v) :: E2).length = es.length + 1 := hl'
    rw [this, ls_scE, w1, w3, w4, w5, w6, w7, w8]
    have e : 40 - (es.length + 1) = 39 - es.length := by omega
    rw [e]
  · intro j hj
    have : (E1 ++ (n, p1, p2, v) :: E2).length = es.length + 1 := hl'
    rw [this] at hj
    obtain ⟨d1, d2, d3, d4⟩ := hs1 j (by omega)
    refine ⟨d1, d2, d3, ?_⟩
    have ne : n ≠ s j := by
      intro e
      exact hs2 j (39 - es.length) (by omega) (by omega) (e.symm.trans hn')
    rw [h1, ls_ct_app] at d4
    rw [ls_ct_app, ls_ct_cons, if_neg ne]; omega
  · intro i j hi hj
    have : (E1 ++ (n, p1, p2, v) :: E2).length = es.length + 1 := hl'
    rw [this] at hj
    exact hs2 i j hi (by omega)
  · show (a_copyKind_3, a_copyAmount_3, a_copyVoid_3) = _
    rw [cyE, w6, w7, w8]
end
section
/-! insert, move, copy -/
def ls_ic (n cap room : Nat) (p0 p1 p2 : Int32) : Option Int32 :=
  if nI n = nI room then some (-1) else if p0 < 0 ∨ ¬ p0 ≤ nI n then some (-2) else if p1 < 0 ∨ ¬ p1 ≤ 3 then some (-3)
  else if p2 < (if p1 = 0 then -nI cap else 0) ∨ ¬ p2 ≤ nI cap then some (-4) else none
theorem ls_negT {n : Nat} (h : n < 2 ^ 31) : (-nI n).toInt = -(n : Int) := by
  rw [Int32.toInt_neg, nI_toInt h, Jvm.Kit.bmod32 (by omega) (by omega)]
theorem ls_ic_ok {n cap room : Nat} {p0 p1 p2 : Int32} (hc : cap ≤ 60) (h1 : ¬ p1 < 0) (h2 : p1 ≤ 3) (h3 : ¬ p2 < (if p1 = 0 then -nI cap else 0)) (h4 : p2 ≤ nI cap) (v : Bool) (m : Nat) : ls_ok cap (m, p1, p2, v) := by
  obtain ⟨j, hj, e⟩ := nI_of2 (M := 3) (n := 3) (by decide) h1 h2
  rw [Int32.le_iff_toInt_le, nI_toInt (by omega)] at h4
  unfold ls_ok
  dsimp only
  by_cases z : p1 = 0
  · rw [if_pos z, Int32.lt_iff_toInt_lt, ls_negT (by omega)] at h3
    exact Or.inl ⟨z, by omega, h4⟩
  · rw [if_neg z, Int32.lt_iff_toInt_lt, Int32.toInt_zero] at h3
    refine Or.inr ⟨?_, by omega, h4⟩
    have j0 : j ≠ 0 := fun q => z (by rw [e, q]; exact nI_0)
    have : j = 1 ∨ j = 2 ∨ j = 3 := by omega
    rcases this with q | q | q
    · exact Or.inl (by rw [e, q]; rfl)
    · exact Or.inr (Or.inl (by rw [e, q]; rfl))
    · exact Or.inr (Or.inr (by rw [e, q]; rfl))
theorem ls_X_insert {u : SX} {cap room : Nat} {es : List ls_It} {p0 p1 p2 : Int32} {post : Int32 → SX → Prop} (hX : ls_X cap room es u) (K0 : ∀ e, ls_ic es.length cap room p0 p1 p2 = some e → post e u)
    (K1 : ls_ic es.length cap room p0 p1 p2 = none → ∀ (u' : SX) (n pos : Nat) (E1 E2 : List ls_It), p0 = nI pos → pos ≤ es.length → es.length < room → es = E1 ++ E2 → E1.length = pos → ls_X cap room (E1 ++ (n, p1, p2, false) :: E2) u' → post (nI (es.length + 1)) u') :
    wpX_insert post u p0 p1 p2 := by
  have hl := hX.2.2.2.1
  have hr := hX.2.2.1
  have hc := hX.2.2.2.2.1.1
  obtain ⟨f_spares, f_root, f_entries, f_cap, f_room, f_accAdd, f_accLow, f_accHigh, a_left, a_right, a_up, a_count, a_kind, a_amount, a_isVoid, a_turnBelow, a_voidBelow, a_live, a_netAll, a_netLive, a_add, a_low, a_high, a_spare, a_copyKind, a_copyAmount, a_copyVoid⟩ := u
  obtain ⟨q1, q2, q3, q4⟩ := ls_X_ent hX
  subst q1; subst q2; subst q3; subst q4
  have k53 : ¬ nI es.length = nI room → ¬ p0 < 0 → p0 ≤ nI es.length → ¬ p1 < 0 → p1 ≤ 3 → ∀ z0, z0 = (if p1 = 0 then -nI cap else 0) → wX_insert_53 post p0 p1 p2 z0 (nI (40 - es.length)) f_root (nI es.length) (nI cap) (nI room) f_accAdd f_accLow f_accHigh a_left a_right a_up a_count a_kind a_amount a_isVoid a_turnBelow a_voidBelow a_live a_netAll a_netLive a_add a_low a_high a_spare a_copyKind a_copyAmount a_copyVoid := by
    intro h1 h2 h3 h4 h5 z0 hz
    subst hz
    unfold wX_insert_53
    refine br_c (fun h => K0 _ ?_) (fun h => br_c (fun h' => ?_) (fun h' => K0 _ ?_))
    · unfold ls_ic
      rw [if_neg h1, if_neg (fun z => z.elim h2 (fun z => z h3)), if_neg (fun z => z.elim h4 (fun z => z h5)), if_pos (Or.inl h)]
    · have hic : ls_ic es.length cap room p0 p1 p2 = none := by
        unfold ls_ic
        rw [if_neg h1, if_neg (fun z => z.elim h2 (fun z => z h3)), if_neg (fun z => z.elim h4 (fun z => z h5)), if_neg (fun z => z.elim h (fun z => z h'))]
      obtain ⟨pos, hp, e⟩ := nI_of h2
      have hpos : pos ≤ es.length := by
        rw [e, nI_leI hp (by omega)] at h3; exact h3
      have hroom : es.length < room := by
        have : es.length ≠ room := fun q => h1 (by rw [q])
        omega
      refine ls_X_place (v := false) hX hroom e hpos rfl (fun n => ls_ic_ok (n := n) (room := room) (p0 := p0) hc h4 h5 h h' false n) fun u' n E1 E2 g1 g2 g3 g4 => ?_
      have fin := K1 hic u' n pos E1 E2 e hpos hroom g1 g2 g3
      have len : (E1 ++ (n, p1, p2, false) :: E2).length = es.length + 1 := by
        rw [g1, List.length_append, List.length_cons, List.length_append]; omega
      obtain ⟨f_spares_1, f_root_1, f_entries_1, f_cap_1, f_room_1, f_accAdd_1, f_accLow_1, f_accHigh_1, a_left_1, a_right_1, a_up_1, a_count_1, a_kind_1, a_amount_1, a_isVoid_1, a_turnBelow_1, a_voidBelow_1, a_live_1, a_netAll_1, a_netLive_1, a_add_1, a_low_1, a_high_1, a_spare_1, a_copyKind_1, a_copyAmount_1, a_copyVoid_1⟩ := u'
      have en := (ls_X_ent g3).1
      rw [len] at en
      rw [← en] at fin
      exact fin
    · unfold ls_ic
      rw [if_neg h1, if_neg (fun z => z.elim h2 (fun z => z h3)), if_neg (fun z => z.elim h4 (fun z => z h5)), if_pos (Or.inr h')]
  unfold wpX_insert
  refine br_c (fun h1 => K0 _ ?_) (fun h1 => br_c (fun h2 => K0 _ ?_) (fun h2 => br_c (fun h3 => br_c (fun h4 => K0 _ ?_) (fun h4 => br_c (fun h5 => br_c (fun h6 => k53 h1 h2 h3 h4 h5 _ ?_) (fun h6 => k53 h1 h2 h3 h4 h5 _ ?_)) (fun h5 => K0 _ ?_))) (fun h3 => K0 _ ?_)))
  · unfold ls_ic; rw [if_pos h1]
  · unfold ls_ic; rw [if_neg h1, if_pos (Or.inl h2)]
  · unfold ls_ic; rw [if_neg h1, if_neg (fun z => z.elim h2 (fun z => z h3)), if_pos (Or.inl h4)]
  · rw [if_pos h6]
  · rw [if_neg h6]
  · unfold ls_ic; rw [if_neg h1, if_neg (fun z => z.elim h2 (fun z => z h3)), if_pos (Or.inr h5)]
  · unfold ls_ic; rw [if_neg h1, if_pos (Or.inr h3)]
/-- a place to put things -/
def ls_mc (m : Nat) (p : Int32) : Prop := ¬ p < 0 ∧ p ≤ nI m
theorem ls_mc_nat {m : Nat} {p : Int32} (hm : m < 2 ^ 31) (h : ls_mc m p) : ∃ d, p = nI d ∧ d ≤ m := by
  obtain ⟨d, hd, e⟩ := nI_of h.1
  have h2 := h.2
  rw [e, nI_leI hd hm] at h2
  exact ⟨d, e, h2⟩
theorem ls_X_move {u : SX} {cap room : Nat} {es : List ls_It} {p0 p1 p2 : Int32} {post : Int32 → SX → Prop} (hX : ls_X cap room es u) (K0 : ¬ ls_gd es.length p0 p1 → post (-1) u)
    (K2 : ∀ f t : Nat, ls_gd es.length p0 p1 → p0 = nI f → p1 = nI t → f ≤ t → t ≤ es.length → ¬ ls_mc (es.length - (t - f)) p2 → post (-2) u)
    (K1 : ∀ (f t d : Nat) (u' : SX) (M E1 E2 D1 D2 : List ls_It), ls_gd es.length p0 p1 → p0 = nI f → p1 = nI t → f ≤ t → t ≤ es.length → ls_mc (es.length - (t - f)) p2 → p2 = nI d → d ≤ es.length - (t - f) → es = E1 ++ (M ++ E2) → E1.length = f → M.length = t - f →
      E1 ++ E2 = D1 ++ D2 → D1.length = d → ls_X cap room (D1 ++ (M ++ D2)) u' → post (nI (t - f)) u') :
    wpX_move post u p0 p1 p2 := by
  have hl := hX.2.2.2.1
  have hr := hX.2.2.1
  obtain ⟨f_spares, f_root, f_entries, f_cap, f_room, f_accAdd, f_accLow, f_accHigh, a_left, a_right, a_up, a_count, a_kind, a_amount, a_isVoid, a_turnBelow, a_voidBelow, a_live, a_netAll, a_netLive, a_add, a_low, a_high, a_spare, a_copyKind, a_copyAmount, a_copyVoid⟩ := u
  have en := (ls_X_ent hX).1
  unfold wpX_move
  refine ls_goodX en (fun g => br_f (by decide) ?_) (fun g => br_t rfl (K0 g))
  obtain ⟨f, t, e0, e1, hft, ht⟩ := ls_gd_nat (by omega) g
  have ex : p1 - p0 = nI (t - f) := by rw [e0, e1]; exact ls_sub hft
  have ey : f_entries - nI (t - f) = nI (es.length - (t - f)) := by rw [en]; exact ls_sub (by omega)
  refine nm_r (e' := nI (t - f)) ex (br_c (fun h => K2 f t g e0 e1 hft ht (fun z => z.1 h)) (fun h => br_c (fun h' => ?_) (fun h' => K2 f t g e0 e1 hft ht (fun z => h' (by rw [ey]; exact z.2)))))
  rw [ey] at h'
  have mc : ls_mc (es.length - (t - f)) p2 := ⟨h, h'⟩
  obtain ⟨d, e2, hd⟩ := ls_mc_nat (by omega) mc
  refine br_c (fun h0 => ?_) (fun h0 => ?_)
  · have tf : t - f = 0 := by
      have h0' : nI (t - f) = nI 0 := h0.trans nI_0.symm
      rwa [nI_eq (by omega) (by omega)] at h0'
    have K := K1 f t d (f_spares, f_root, f_entries, f_cap, f_room, f_accAdd, f_accLow, f_accHigh, a_left, a_right, a_up, a_count, a_kind, a_amount, a_isVoid, a_turnBelow, a_voidBelow, a_live, a_netAll, a_netLive, a_add, a_low, a_high, a_spare, a_copyKind, a_copyAmount, a_copyVoid) [] (es.take f) (es.drop f) (es.take d) (es.drop d) g e0 e1 hft ht mc e2 hd (by rw [List.nil_append, List.take_append_drop]) (by rw [List.length_take]; omega) (by rw [tf]; rfl)
      (by rw [List.take_append_drop, List.take_append_drop]) (by rw [List.length_take]; omega) (by rw [List.nil_append, List.take_append_drop]; exact hX)
    rw [tf] at K
    exact K
  · refine ls_Xiso hX.2.2.2.2.1 e0 e1 hft ht fun u1 b a k P x M y Q E1 E2 hX1 s1 r1 I1 h1 h2 h3 h4 h5 F1 => ?_
    have T1 := ls_Is_T I1
    have W1 := ls_Is_W I1
    have hu := hX1.2.2.2.2.1
    rw [h1] at hu
    have len : es.length = E1.length + (M.length + E2.length) := by rw [h1, List.length_append, List.length_append]
    have lE : (E1 ++ ([] ++ E2)).length = es.length - (t - f) := by rw [List.nil_append, List.length_append]; omega
    have hM0 : ∀ j, 0 < ls_ct j M → ls_ct j (ls_fl (E1 ++ ([] ++ E2))) = 0 := by
      intro j hj
      have q := hu j
      rw [ls_ct_fl, ls_ct_app, ls_ct_app] at q
      rw [ls_ct_fl, ls_ct_app, ls_ct_app, ls_ct_nil]
      omega
    obtain ⟨f_spares_1, f_root_1, f_entries_1, f_cap_1, f_room_1, f_accAdd_1, f_accLow_1, f_accHigh_1, a_left_1, a_right_1, a_up_1, a_count_1, a_kind_1, a_amount_1, a_isVoid_1, a_turnBelow_1, a_voidBelow_1, a_live_1, a_netAll_1, a_netLive_1, a_add_1, a_low_1, a_high_1, a_spare_1, a_copyKind_1, a_copyAmount_1, a_copyVoid_1⟩ := u1
    refine ls_Xhang (M' := []) (k := 0) (q := 0) hX1 rfl hX1.2.2.1 nI_0.symm r1 W1 (ls_T_nil 0) h4 h5 (ls_u1_mid hu fun j => by rw [ls_ct_nil]; omega) (by omega) fun u2 hX2 s2 F2 => ?_
    have T2 : ls_T cap (ls_nv u2) k a M := ls_T_fr T1 fun j hj => F2 j (hM0 j hj)
    obtain ⟨f_spares_2, f_root_2, f_entries_2, f_cap_2, f_room_2, f_accAdd_2, f_accLow_2, f_accHigh_2, a_left_2, a_right_2, a_up_2, a_count_2, a_kind_2, a_amount_2, a_isVoid_2, a_turnBelow_2, a_voidBelow_2, a_live_2, a_netAll_2, a_netLive_2, a_add_2, a_low_2, a_high_2, a_spare_2, a_copyKind_2, a_copyAmount_2, a_copyVoid_2⟩ := u2
    refine ls_Xiso hX2 e2 e2 (Nat.le_refl _) (by omega) fun u3 b' a' k' P' x' M' y' Q' D1 D2 hX3 s3 r3 I3 i1 i2 i3 i4 i5 F3 => ?_
    have eM : M' = [] := List.length_eq_zero_iff.mp (by omega)
    subst eM
    have W3 := ls_Is_W I3
    have T3 : ls_T cap (ls_nv u3) k a M := ls_T_fr T2 fun j hj => F3 j (hM0 j hj)
    have i1' : E1 ++ E2 = D1 ++ D2 := i1
    have hct : ∀ j, ls_ct j (D1 ++ (M ++ D2)) = ls_ct j es := by
      intro j
      have q := congrArg (ls_ct j) i1'
      rw [ls_ct_app, ls_ct_app] at q
      rw [h1, ls_ct_app, ls_ct_app, ls_ct_app, ls_ct_app]; omega
    have hlen : (D1 ++ (M ++ D2)).length = es.length := by
      have q := congrArg List.length i1'
      rw [List.length_append, List.length_append] at q
      rw [List.length_append, List.length_append]; omega
    have hu3 : ls_u1 (ls_fl (D1 ++ (M ++ D2))) := by
      intro j
      have q := hX1.2.2.2.2.1 j
      rw [ls_ct_fl] at q ⊢
      rw [hct]; exact q
    obtain ⟨f_spares_3, f_root_3, f_entries_3, f_cap_3, f_room_3, f_accAdd_3, f_accLow_3, f_accHigh_3, a_left_3, a_right_3, a_up_3, a_count_3, a_kind_3, a_amount_3, a_isVoid_3, a_turnBelow_3, a_voidBelow_3, a_live_3, a_netAll_3, a_netLive_3, a_add_3, a_low_3, a_high_3, a_spare_3, a_copyKind_3, a_copyAmount_3, a_copyVoid_3⟩ := u3
    refine ls_Xhang hX3 rfl hX3.2.2.1 rfl r3 W3 T3 i4 i5 hu3 (by omega) fun u4 hX4 s4 F4 => ?_
    have fin := K1 f t d u4 M E1 E2 D1 D2 g e0 e1 hft ht mc e2 hd h1 h2 h3 i1' i2 (ls_X_upd hX (s4.trans (s3.trans (s2.trans s1))) hX4 hlen hct)
    obtain ⟨f_spares_4, f_root_4, f_entries_4, f_cap_4, f_room_4, f_accAdd_4, f_accLow_4, f_accHigh_4, a_left_4, a_right_4, a_up_4, a_count_4, a_kind_4, a_amount_4, a_isVoid_4, a_turnBelow_4, a_voidBelow_4, a_live_4, a_netAll_4, a_netLive_4, a_add_4, a_low_4, a_high_4, a_spare_4, a_copyKind_4, a_copyAmount_4, a_copyVoid_4⟩ := u4
    exact fin
end
section
/-! copy -/
section
variable {f_spares f_root f_entries f_cap f_room f_accAdd f_accLow f_accHigh : Int32} {a_left a_right a_up a_count a_kind a_amount a_isVoid a_turnBelow a_voidBelow a_live a_netAll a_netLive a_add a_low a_high a_spare a_copyKind a_copyAmount a_copyVoid : Nat → Int32}
variable {a_copyKind' a_copyAmount' a_copyVoid' : Nat → Int32}
theorem ls_X_cyX {cap room : Nat} {es : List ls_It} (hX : ls_X cap room es (f_spares, f_root, f_entries, f_cap, f_room, f_accAdd, f_accLow, f_accHigh, a_left, a_right, a_up, a_count, a_kind, a_amount, a_isVoid, a_turnBelow, a_voidBelow, a_live, a_netAll, a_netLive, a_add, a_low, a_high, a_spare, a_copyKind, a_copyAmount, a_copyVoid)) : ls_X cap room es (f_spares, f_root, f_entries, f_cap, f_room, f_accAdd, f_accLow, f_accHigh, a_left, a_right, a_up, a_count, a_kind, a_amount, a_isVoid, a_turnBelow, a_voidBelow, a_live, a_netAll, a_netLive, a_add, a_low, a_high, a_spare, a_copyKind', a_copyAmount', a_copyVoid') := by
  obtain ⟨h1, h2, h3, h4, h5, sp, ck, ca, cv, h6, h7⟩ := hX
  have h6' : (f_spares, f_entries, f_cap, f_room, a_spare, a_copyKind, a_copyAmount, a_copyVoid) = (nI (40 - es.length), nI es.length, nI cap, nI room, sp, ck, ca, cv) := h6
  simp only [Prod.mk.injEq] at h6'
  obtain ⟨q1, q2, q3, q4, q5, q6, q7, q8⟩ := h6'
  refine ⟨h1, h2, h3, h4, ls_XcX h5, sp, a_copyKind', a_copyAmount', a_copyVoid', ?_, h7⟩
  rw [ls_scE, q1, q2, q3, q4, q5]
end
/-- what the copies hold: the entries of M, up to i -/
def ls_cyM (c : (Nat → Int32) × (Nat → Int32) × (Nat → Int32)) (M : List ls_It) (i : Nat) : Prop :=
  ∀ j z, j < i → M[j]? = some z → c.1 j = z.2.1 ∧ c.2.1 j = z.2.2.1 ∧ c.2.2 j = ls_b z.2.2.2
def ls_k125 (post : Int32 → SX → Prop) (x3 x4 : Int32) (n : Nat) (x5 : Int32) (u : SX) : Prop := match u with
  | (f_spares, f_root, f_entries, f_cap, f_room, f_accAdd, f_accLow, f_accHigh, a_left, a_right, a_up, a_count, a_kind, a_amount, a_isVoid, a_turnBelow, a_voidBelow, a_live, a_netAll, a_netLive, a_add, a_low, a_high, a_spare, a_copyKind, a_copyAmount, a_copyVoid) => wX_copy_125 post x3 x4 n x5 f_spares f_root f_entries f_cap f_room f_accAdd f_accLow f_accHigh a_left a_right a_up a_count a_kind a_amount a_isVoid a_turnBelow a_voidBelow a_live a_netAll a_netLive a_add a_low a_high a_spare a_copyKind a_copyAmount a_copyVoid
theorem ls_c125 {post : Int32 → SX → Prop} {cap room d len : Nat} {M D1 D2 : List ls_It} {c : (Nat → Int32) × (Nat → Int32) × (Nat → Int32)} (hD : D1.length = d) (hM : M.length = len) (hcm : ls_cyM c M len) (oM : ls_oks cap M) (hroom : D1.length + D2.length + len ≤ room) (h40 : room ≤ 40)
    (K : ∀ (u' : SX) (CC : List ls_It), CC.map (fun x => x.2) = M.map (fun x => x.2) → ls_X cap room (D1 ++ (CC ++ D2)) u' → post (nI (D1.length + D2.length + len)) u') :
    ∀ (n : Nat) (u : SX) (i : Nat) (CC : List ls_It), len - i < n → i ≤ len → ls_X cap room (D1 ++ (CC ++ D2)) u → CC.map (fun x => x.2) = (M.take i).map (fun x => x.2) → ls_cy u = c → ls_k125 post (nI d) (nI len) n (nI i) u := by
  intro n
  induction n with
  | zero => intro u i CC h; omega
  | succ n ih =>
    intro u i CC hn hi hX hCC hcy
    have lC : CC.length = i := by
      have := congrArg List.length hCC
      rw [List.length_map, List.length_map, List.length_take] at this; omega
    have lE : (D1 ++ (CC ++ D2)).length = D1.length + D2.length + i := by rw [List.length_append, List.length_append]; omega
    by_cases hd : i = len
    · have hCC' : CC.map (fun x => x.2) = M.map (fun x => x.2) := by
        rw [hCC, hd, ← hM, List.take_length]
      have fin := K u CC hCC' hX
      obtain ⟨f_spares, f_root, f_entries, f_cap, f_room, f_accAdd, f_accLow, f_accHigh, a_left, a_right, a_up, a_count, a_kind, a_amount, a_isVoid, a_turnBelow, a_voidBelow, a_live, a_netAll, a_netLive, a_add, a_low, a_high, a_spare, a_copyKind, a_copyAmount, a_copyVoid⟩ := u
      have en := (ls_X_ent hX).1
      rw [lE, hd] at en
      rw [← en] at fin
      exact br_t (nI_le (by omega) (by omega)) fin
    · have hlt : i < len := by omega
      have hz : M[i]? = some (M[i]'(by omega)) := List.getElem?_eq_getElem (by omega)
      obtain ⟨c1, c2, c3⟩ := hcm i _ hlt hz
      have oz : ls_ok cap (M[i]'(by omega)) := oM _ (List.getElem_mem _)
      have hcy' := hcy
      have step : ∀ (u' : SX) (m : Nat) (E1 E2 : List ls_It), D1 ++ (CC ++ D2) = E1 ++ E2 → E1.length = d + i → ls_X cap room (E1 ++ (m, (M[i]'(by omega)).2.1, (M[i]'(by omega)).2.2.1, (M[i]'(by omega)).2.2.2) :: E2) u' → ls_cy u' = ls_cy u → ls_k125 post (nI d) (nI len) n (nI (i + 1)) u' := by
        intro u' m E1 E2 g1 g2 g3 g4
        have g1' : (D1 ++ CC) ++ D2 = E1 ++ E2 := by rw [← g1, List.append_assoc]
        obtain ⟨w1, w2⟩ := List.append_inj g1' (by rw [List.length_append]; omega)
        subst w1; subst w2
        refine ih u' (i + 1) (CC ++ [(m, (M[i]'(by omega)).2.1, (M[i]'(by omega)).2.2.1, (M[i]'(by omega)).2.2.2)]) (by omega) (by omega) ?_ ?_ (g4.trans hcy)
        · have e : D1 ++ ((CC ++ [(m, (M[i]'(by omega)).2.1, (M[i]'(by omega)).2.2.1, (M[i]'(by omega)).2.2.2)]) ++ D2) = (D1 ++ CC) ++ (m, (M[i]'(by omega)).2.1, (M[i]'(by omega)).2.2.1, (M[i]'(by omega)).2.2.2) :: D2 := by
            simp only [List.append_assoc, List.cons_append, List.nil_append]
          rw [e]; exact g3
        · rw [List.map_append, hCC, List.take_succ, hz, List.map_append]
          rfl
      have hin : vp_in (nI i) 40 := vp_in_nI (by omega) (by omega)
      have ci := ls_cln (n := i) (by omega)
      obtain ⟨f_spares, f_root, f_entries, f_cap, f_room, f_accAdd, f_accLow, f_accHigh, a_left, a_right, a_up, a_count, a_kind, a_amount, a_isVoid, a_turnBelow, a_voidBelow, a_live, a_netAll, a_netLive, a_add, a_low, a_high, a_spare, a_copyKind, a_copyAmount, a_copyVoid⟩ := u
      have c1' : a_copyKind i = (M[i]'(by omega)).2.1 := (congrArg (fun w => w.1 i) hcy).trans c1
      have c2' : a_copyAmount i = (M[i]'(by omega)).2.2.1 := (congrArg (fun w => w.2.1 i) hcy).trans c2
      have c3' : a_copyVoid i = ls_b (M[i]'(by omega)).2.2.2 := (congrArg (fun w => w.2.2 i) hcy).trans c3
      refine br_f (nI_ge hlt (by omega)) ⟨hin, hin, hin, ?_⟩
      rw [ci, c1', c2']
      refine ls_X_place (v := (M[i]'(by omega)).2.2.2) (pos := d + i) hX (by omega) (nI_add d i) (by omega) c3' (fun m => oz) fun u' m E1 E2 g1 g2 g3 g4 => ?_
      have fin := step u' m E1 E2 g1 g2 g3 g4
      obtain ⟨f_spares_1, f_root_1, f_entries_1, f_cap_1, f_room_1, f_accAdd_1, f_accLow_1, f_accHigh_1, a_left_1, a_right_1, a_up_1, a_count_1, a_kind_1, a_amount_1, a_isVoid_1, a_turnBelow_1, a_voidBelow_1, a_live_1, a_netAll_1, a_netLive_1, a_add_1, a_low_1, a_high_1, a_spare_1, a_copyKind_1, a_copyAmount_1, a_copyVoid_1⟩ := u'
      exact nm_r (e' := nI (i + 1)) (nI_1 i) fin
def ls_k51 (post : Int32 → SX → Prop) (x1 x3 x4 : Int32) (n : Nat) (x5 : Int32) (u : SX) : Prop := match u with
  | (f_spares, f_root, f_entries, f_cap, f_room, f_accAdd, f_accLow, f_accHigh, a_left, a_right, a_up, a_count, a_kind, a_amount, a_isVoid, a_turnBelow, a_voidBelow, a_live, a_netAll, a_netLive, a_add, a_low, a_high, a_spare, a_copyKind, a_copyAmount, a_copyVoid) => wX_copy_51 post x1 x3 x4 n x5 f_spares f_root f_entries f_cap f_room f_accAdd f_accLow f_accHigh a_left a_right a_up a_count a_kind a_amount a_isVoid a_turnBelow a_voidBelow a_live a_netAll a_netLive a_add a_low a_high a_spare a_copyKind a_copyAmount a_copyVoid
theorem ls_c51 {post : Int32 → SX → Prop} {cap room f d len : Nat} {es M E1 E2 D1 D2 : List ls_It} (hE : es = E1 ++ (M ++ E2)) (hf : E1.length = f) (hM : M.length = len) (hes : es = D1 ++ D2) (hD : D1.length = d) (hroom : es.length + len ≤ room) (h40 : room ≤ 40)
    (K : ∀ (u' : SX) (CC : List ls_It), CC.map (fun x => x.2) = M.map (fun x => x.2) → ls_X cap room (D1 ++ (CC ++ D2)) u' → post (nI (es.length + len)) u') :
    ∀ (n : Nat) (u : SX) (i : Nat), len - i < n → i ≤ len → ls_X cap room es u → ls_cyM (ls_cy u) M i → ls_k51 post (nI f) (nI d) (nI len) n (nI i) u := by
  have lE : es.length = E1.length + (M.length + E2.length) := by rw [hE, List.length_append, List.length_append]
  have lD : es.length = D1.length + D2.length := by rw [hes, List.length_append]
  intro n
  induction n with
  | zero => intro u i h; omega
  | succ n ih =>
    intro u i hn hi hX hcm
    by_cases hd : i = len
    · subst hd
      have oM : ls_oks cap M := by
        have := ls_X_oks hX
        rw [hE] at this
        exact (ls_oks_app.mp (ls_oks_app.mp this).2).1
      have := ls_c125 (post := post) (c := ls_cy u) (D2 := D2) (room := room) hD hM hcm oM (by omega) h40 (fun u' CC h1 h2 => by rw [← lD]; exact K u' CC h1 h2) (i + 1) u 0 [] (by omega) (by omega) (by rw [List.nil_append, ← hes]; exact hX) rfl rfl
      obtain ⟨f_spares, f_root, f_entries, f_cap, f_room, f_accAdd, f_accLow, f_accHigh, a_left, a_right, a_up, a_count, a_kind, a_amount, a_isVoid, a_turnBelow, a_voidBelow, a_live, a_netAll, a_netLive, a_add, a_low, a_high, a_spare, a_copyKind, a_copyAmount, a_copyVoid⟩ := u
      exact br_t (nI_le (by omega) (by omega)) ⟨i + 1, this⟩
    · have hlt : i < len := by omega
      have hin : vp_in (nI i) 40 := vp_in_nI (by omega) (by omega)
      have ci := ls_cln (n := i) (by omega)
      have eM : M[i]? = es[f + i]? := by
        rw [hE, List.getElem?_append_right (by omega), List.getElem?_append_left (by omega)]
        congr 1; omega
      obtain ⟨f_spares, f_root, f_entries, f_cap, f_room, f_accAdd, f_accLow, f_accHigh, a_left, a_right, a_up, a_count, a_kind, a_amount, a_isVoid, a_turnBelow, a_voidBelow, a_live, a_netAll, a_netLive, a_add, a_low, a_high, a_spare, a_copyKind, a_copyAmount, a_copyVoid⟩ := u
      refine br_f (nI_ge hlt (by omega)) ?_
      refine ls_Xq1 (f := f + i) hX (nI_add f i) (by rw [nI_add]) (by omega) fun u' k z hX' s1 k43 hz hst => ?_
      obtain ⟨l, r, p, t, w, hst⟩ := hst
      have ck := ls_cln (n := k) (by omega)
      have hcy := ls_cy_sc s1
      obtain ⟨f_spares_1, f_root_1, f_entries_1, f_cap_1, f_room_1, f_accAdd_1, f_accLow_1, f_accHigh_1, a_left_1, a_right_1, a_up_1, a_count_1, a_kind_1, a_amount_1, a_isVoid_1, a_turnBelow_1, a_voidBelow_1, a_live_1, a_netAll_1, a_netLive_1, a_add_1, a_low_1, a_high_1, a_spare_1, a_copyKind_1, a_copyAmount_1, a_copyVoid_1⟩ := u'
      have k1 : a_kind_1 k = z.2.1 := congrArg (fun z => z.2.2.2.1) hst
      have k2 : a_amount_1 k = z.2.2.1 := congrArg (fun z => z.2.2.2.2.1) hst
      have k3 : a_isVoid_1 k = ls_b z.2.2.2 := congrArg (fun z => z.2.2.2.2.2.1) hst
      have y1 : a_copyKind_1 = a_copyKind := congrArg (fun w => w.1) hcy
      have y2 : a_copyAmount_1 = a_copyAmount := congrArg (fun w => w.2.1) hcy
      have y3 : a_copyVoid_1 = a_copyVoid := congrArg (fun w => w.2.2) hcy
      have hink := ls_in43 k43
      refine And.intro hink (And.intro hin (nm_r (e' := upd a_copyKind_1 i z.2.1) (by rw [ci, ck, k1]) (And.intro hink (And.intro hin (nm_r (e' := upd a_copyAmount_1 i z.2.2.1) (by rw [ci, ck, k2])
        (And.intro hink (And.intro hin (nm_r (e' := upd a_copyVoid_1 i (ls_b z.2.2.2)) (by rw [ci, ck, k3, ls_narb]) (nm_r (e' := nI (i + 1)) (nI_1 i) ?_)))))))))
      refine ih _ (i + 1) (by omega) (by omega) (ls_X_cyX hX') ?_
      intro j z' hj hz'
      show upd a_copyKind_1 i z.2.1 j = _ ∧ upd a_copyAmount_1 i z.2.2.1 j = _ ∧ upd a_copyVoid_1 i (ls_b z.2.2.2) j = _
      by_cases e : j = i
      · rw [ls_us e, ls_us e, ls_us e]
        rw [e, eM, hz] at hz'
        have := Option.some.inj hz'
        rw [this]; exact ⟨rfl, rfl, rfl⟩
      · rw [ls_un e, ls_un e, ls_un e, y1, y2, y3]
        exact hcm j z' (by omega) hz'
theorem ls_X_copy {u : SX} {cap room : Nat} {es : List ls_It} {p0 p1 p2 : Int32} {post : Int32 → SX → Prop} (hX : ls_X cap room es u) (K0 : ¬ ls_gd es.length p0 p1 → post (-1) u)
    (K2 : ls_gd es.length p0 p1 → ¬ ls_mc es.length p2 → post (-2) u)
    (K3 : ∀ f t : Nat, ls_gd es.length p0 p1 → p0 = nI f → p1 = nI t → f ≤ t → t ≤ es.length → ls_mc es.length p2 → ¬ es.length + (t - f) ≤ room → post (-3) u)
    (K1 : ∀ (f t d : Nat) (u' : SX) (M E1 E2 D1 D2 CC : List ls_It), ls_gd es.length p0 p1 → p0 = nI f → p1 = nI t → f ≤ t → t ≤ es.length → ls_mc es.length p2 → p2 = nI d → d ≤ es.length → es.length + (t - f) ≤ room → es = E1 ++ (M ++ E2) → E1.length = f → M.length = t - f →
      es = D1 ++ D2 → D1.length = d → CC.map (fun x => x.2) = M.map (fun x => x.2) → ls_X cap room (D1 ++ (CC ++ D2)) u' → post (nI (es.length + (t - f))) u') :
    wpX_copy post u p0 p1 p2 := by
  have hl := hX.2.2.2.1
  have hr := hX.2.2.1
  have hX' := hX
  obtain ⟨f_spares, f_root, f_entries, f_cap, f_room, f_accAdd, f_accLow, f_accHigh, a_left, a_right, a_up, a_count, a_kind, a_amount, a_isVoid, a_turnBelow, a_voidBelow, a_live, a_netAll, a_netLive, a_add, a_low, a_high, a_spare, a_copyKind, a_copyAmount, a_copyVoid⟩ := u
  obtain ⟨en, ec, er, es'⟩ := ls_X_ent hX
  unfold wpX_copy
  refine ls_goodX en (fun g => br_f (by decide) ?_) (fun g => br_t rfl (K0 g))
  obtain ⟨f, t, e0, e1, hft, ht⟩ := ls_gd_nat (by omega) g
  have ex : p1 - p0 = nI (t - f) := by rw [e0, e1]; exact ls_sub hft
  refine br_c (fun h => K2 g (fun z => z.1 h)) (fun h => br_c (fun h' => ?_) (fun h' => K2 g (fun z => h' (by rw [en]; exact z.2))))
  rw [en] at h'
  have mc : ls_mc es.length p2 := ⟨h, h'⟩
  obtain ⟨d, e2, hd⟩ := ls_mc_nat (by omega) mc
  have ey : f_entries + nI (t - f) = nI (es.length + (t - f)) := by rw [en, nI_add]
  refine nm_r (e' := nI (t - f)) ex (br_c (fun h1 => ?_) (fun h1 => ?_))
  · rw [ey, er, nI_leI (by omega) (by omega)] at h1
    have := ls_c51 (post := post) (cap := cap) (room := room) (f := f) (d := d) (len := t - f) (es := es) (M := (es.drop f).take (t - f)) (E1 := es.take f) (E2 := (es.drop f).drop (t - f)) (D1 := es.take d) (D2 := es.drop d)
      (by rw [List.take_append_drop, List.take_append_drop]) (by rw [List.length_take]; omega) (by rw [List.length_take, List.length_drop]; omega) (by rw [List.take_append_drop]) (by rw [List.length_take]; omega) h1 hr
      (fun u' CC hCC hXX => K1 f t d u' _ _ _ _ _ CC g e0 e1 hft ht mc e2 hd h1 (by rw [List.take_append_drop, List.take_append_drop]) (by rw [List.length_take]; omega) (by rw [List.length_take, List.length_drop]; omega) (by rw [List.take_append_drop]) (by rw [List.length_take]; omega) hCC hXX)
      (t - f + 1) (f_spares, f_root, f_entries, f_cap, f_room, f_accAdd, f_accLow, f_accHigh, a_left, a_right, a_up, a_count, a_kind, a_amount, a_isVoid, a_turnBelow, a_voidBelow, a_live, a_netAll, a_netLive, a_add, a_low, a_high, a_spare, a_copyKind, a_copyAmount, a_copyVoid) 0 (by omega) (by omega) hX (fun j z hj => by omega)
    rw [e0, e2]
    exact ⟨_, this⟩
  · rw [ey, er, nI_leI (by omega) (by omega)] at h1
    exact K3 f t g e0 e1 hft ht mc h1
end
section
/-! the constructor -/
section
variable {f_spares f_root f_entries f_cap f_room f_accAdd f_accLow f_accHigh : Int32} {a_left a_right a_up a_count a_kind a_amount a_isVoid a_turnBelow a_voidBelow a_live a_netAll a_netLive a_add a_low a_high a_spare a_copyKind a_copyAmount a_copyVoid : Nat → Int32}
theorem ls_i183 {post : SX → Prop} (K : ∀ a_high' : Nat → Int32, (∀ j, j < 172 → a_high' j = f_cap) → ∃ n209 : Nat, wX_init_209 post f_root f_entries f_cap f_room f_accAdd f_accLow f_accHigh n209 42 f_spares a_left a_right a_up a_count a_kind a_amount a_isVoid a_turnBelow a_voidBelow a_live a_netAll a_netLive a_add a_low a_high' a_spare a_copyKind a_copyAmount a_copyVoid) :
    ∀ (n i : Nat) (a_high : Nat → Int32), 172 - i < n → i ≤ 172 → (∀ j, j < i → a_high j = f_cap) → wX_init_183 post f_spares f_root f_entries f_cap f_room f_accAdd f_accLow f_accHigh n (nI i) a_left a_right a_up a_count a_kind a_amount a_isVoid a_turnBelow a_voidBelow a_live a_netAll a_netLive a_add a_low a_high a_spare a_copyKind a_copyAmount a_copyVoid := by
  intro n
  induction n with
  | zero => intro i a h; omega
  | succ n ih =>
    intro i a_high hn hi ha
    by_cases h : i = 172
    · exact br_t (nI_le (a := 172) (by omega) (by omega)) (K a_high (fun j hj => ha j (by omega)))
    · refine br_f (nI_ge (b := 172) (by omega) (by omega)) ⟨ls_in172 (by omega), nm_r (e' := upd a_high i f_cap) (by rw [ls_cln (by omega)]) (nm_r (e' := nI (i + 1)) (nI_1 i) (ih (i + 1) _ (by omega) (by omega) ?_))⟩
      intro j hj
      by_cases e : j = i
      · rw [ls_us e]
      · rw [ls_un e]; exact ha j (by omega)
/-- what stands behind the second loop -/
def ls_i209 (post : SX → Prop) (u : SX) : Prop := match u with
  | (f_spares, f_root, f_entries, f_cap, f_room, f_accAdd, f_accLow, f_accHigh, a_left, a_right, a_up, a_count, a_kind, a_amount, a_isVoid, a_turnBelow, a_voidBelow, a_live, a_netAll, a_netLive, a_add, a_low, a_high, a_spare, a_copyKind, a_copyAmount, a_copyVoid) => wpX_setUp (fun u => match u with | (f_spares_6, f_root_6, f_entries_6, f_cap_6, f_room_6, f_accAdd_6, f_accLow_6, f_accHigh_6, a_left_6, a_right_6, a_up_6, a_count_6, a_kind_6, a_amount_6, a_isVoid_6, a_turnBelow_6, a_voidBelow_6, a_live_6, a_netAll_6, a_netLive_6, a_add_6, a_low_6, a_high_6, a_spare_6, a_copyKind_6, a_copyAmount_6, a_copyVoid_6) => (wpX_setUp (fun u => match u with | (f_spares_34, f_root_34, f_entries_34, f_cap_34, f_room_34, f_accAdd_34, f_accLow_34, f_accHigh_34, a_left_34, a_right_34, a_up_34, a_count_34, a_kind_34, a_amount_34, a_isVoid_34, a_turnBelow_34, a_voidBelow_34, a_live_34, a_netAll_34, a_netLive_34, a_add_34, a_low_34, a_high_34, a_spare_34, a_copyKind_34, a_copyAmount_34, a_copyVoid_34) => (∀ a_right_62 : Nat → Int32, a_right_62 = upd a_right_34 1 2 → (∀ a_up_64 : Nat → Int32, a_up_64 = upd a_up_34 2 1 → (wpX_pull (fun u => match u with | (f_spares_66, f_root_66, f_entries_66, f_cap_66, f_room_66, f_accAdd_66, f_accLow_66, f_accHigh_66, a_left_66, a_right_66, a_up_66, a_count_66, a_kind_66, a_amount_66, a_isVoid_66, a_turnBelow_66, a_voidBelow_66, a_live_66, a_netAll_66, a_netLive_66, a_add_66, a_low_66, a_high_66, a_spare_66, a_copyKind_66, a_copyAmount_66, a_copyVoid_66) => (post (f_spares_66, 1, f_entries_66, f_cap_66, f_room_66, f_accAdd_66, f_accLow_66, f_accHigh_66, a_left_66, a_right_66, a_up_66, a_count_66, a_kind_66, a_amount_66, a_isVoid_66, a_turnBelow_66, a_voidBelow_66, a_live_66, a_netAll_66, a_netLive_66, a_add_66, a_low_66, a_high_66, a_spare_66, a_copyKind_66, a_copyAmount_66, a_copyVoid_66))) (f_spares_34, f_root_34, f_entries_34, f_cap_34, f_room_34, f_accAdd_34, f_accLow_34, f_accHigh_34, a_left_34, a_right_62, a_up_64, a_count_34, a_kind_34, a_amount_34, a_isVoid_34, a_turnBelow_34, a_voidBelow_34, a_live_34, a_netAll_34, a_netLive_34, a_add_34, a_low_34, a_high_34, a_spare_34, a_copyKind_34, a_copyAmount_34, a_copyVoid_34) 1)))) (f_spares_6, f_root_6, f_entries_6, f_cap_6, f_room_6, f_accAdd_6, f_accLow_6, f_accHigh_6, a_left_6, a_right_6, a_up_6, a_count_6, a_kind_6, a_amount_6, a_isVoid_6, a_turnBelow_6, a_voidBelow_6, a_live_6, a_netAll_6, a_netLive_6, a_add_6, a_low_6, a_high_6, a_spare_6, a_copyKind_6, a_copyAmount_6, a_copyVoid_6) 2 0 0 0)) (f_spares, f_root, f_entries, f_cap, f_room, f_accAdd, f_accLow, f_accHigh, a_left, a_right, a_up, a_count, a_kind, a_amount, a_isVoid, a_turnBelow, a_voidBelow, a_live, a_netAll, a_netLive, a_add, a_low, a_high, a_spare, a_copyKind, a_copyAmount, a_copyVoid) 1 0 0 0
theorem ls_i209l {post : SX → Prop} (K : ∀ a_spare' : Nat → Int32, (∀ j, j < 40 → a_spare' j = nI (42 - j)) → ls_i209 post (nI 40, f_root, f_entries, f_cap, f_room, f_accAdd, f_accLow, f_accHigh, a_left, a_right, a_up, a_count, a_kind, a_amount, a_isVoid, a_turnBelow, a_voidBelow, a_live, a_netAll, a_netLive, a_add, a_low, a_high, a_spare', a_copyKind, a_copyAmount, a_copyVoid)) :
    ∀ (n i : Nat) (a_spare : Nat → Int32), 40 - i < n → i ≤ 40 → (∀ j, j < i → a_spare j = nI (42 - j)) → wX_init_209 post f_root f_entries f_cap f_room f_accAdd f_accLow f_accHigh n (nI (42 - i)) (nI i) a_left a_right a_up a_count a_kind a_amount a_isVoid a_turnBelow a_voidBelow a_live a_netAll a_netLive a_add a_low a_high a_spare a_copyKind a_copyAmount a_copyVoid := by
  intro n
  induction n with
  | zero => intro i a h; omega
  | succ n ih =>
    intro i a_spare hn hi ha
    by_cases h : i = 40
    · subst h
      exact br_t (nI_le (a := 2) (b := 2) (by omega) (by omega)) (K a_spare ha)
    · refine br_f (nI_ge (a := 2) (by omega) (by omega)) ⟨ls_in43 (by omega), nm_r (e' := upd a_spare i (nI (42 - i))) (by rw [ls_cln (by omega)]) (nm_r (e' := nI (i + 1)) (nI_1 i) (nm_r (e' := nI (42 - (i + 1))) ?_ (ih (i + 1) _ (by omega) (by omega) ?_)))⟩
      · have e : 42 - i = (42 - (i + 1)) + 1 := by omega
        rw [e, ← nI_1, Int32.add_assoc, show (1 : Int32) + (-1) = 0 from rfl, Int32.add_zero]
      · intro j hj
        by_cases e : j = i
        · rw [ls_us e, e]
        · rw [ls_un e]; exact ha j (by omega)
end
theorem ls_sent {cap n : Nat} : ls_ok cap (n, 0, 0, false) := Or.inl ⟨rfl, by show -(cap : Int) ≤ (0 : Int32).toInt; rw [Int32.toInt_zero]; omega, by show (0 : Int32).toInt ≤ (cap : Int); rw [Int32.toInt_zero]; omega⟩
section
variable {f_spares f_root f_entries f_cap f_room f_accAdd f_accLow f_accHigh : Int32} {a_left a_right a_up a_count a_kind a_amount a_isVoid a_turnBelow a_voidBelow a_live a_netAll a_netLive a_add a_low a_high a_spare a_copyKind a_copyAmount a_copyVoid : Nat → Int32}
theorem ls_i209e {post : SX → Prop} {cap room : Nat} (h4 : 4 ≤ cap) (h60 : cap ≤ 60) (h2 : 2 ≤ room) (h40 : room ≤ 40) (hcap : f_cap = nI cap) (hroom : f_room = nI room) (hent : f_entries = 0) (hsp : f_spares = nI 40) (hs : ∀ j, j < 40 → a_spare j = nI (42 - j))
    (h0 : ls_Ag cap (ls_nv (f_spares, f_root, f_entries, f_cap, f_room, f_accAdd, f_accLow, f_accHigh, a_left, a_right, a_up, a_count, a_kind, a_amount, a_isVoid, a_turnBelow, a_voidBelow, a_live, a_netAll, a_netLive, a_add, a_low, a_high, a_spare, a_copyKind, a_copyAmount, a_copyVoid) 0).2 [])
    (K : ∀ u' : SX, ls_X cap room [] u' → post u') : ls_i209 post (f_spares, f_root, f_entries, f_cap, f_room, f_accAdd, f_accLow, f_accHigh, a_left, a_right, a_up, a_count, a_kind, a_amount, a_isVoid, a_turnBelow, a_voidBelow, a_live, a_netAll, a_netLive, a_add, a_low, a_high, a_spare, a_copyKind, a_copyAmount, a_copyVoid) := by
  unfold ls_i209
  refine ls_setUp (cap := cap) (n := 1) (v := false) rfl rfl h60 hcap (by omega) (by omega) h0 ls_sent fun u1 s1 r1 O1 F1 => ?_
  have hcap1 : ls_cp u1 = nI cap := (ls_cp_sc s1).trans hcap
  have h01 : ls_Ag cap (ls_nv u1 0).2 [] := by rw [F1 0 (by omega)]; exact h0
  obtain ⟨f_spares_1, f_root_1, f_entries_1, f_cap_1, f_room_1, f_accAdd_1, f_accLow_1, f_accHigh_1, a_left_1, a_right_1, a_up_1, a_count_1, a_kind_1, a_amount_1, a_isVoid_1, a_turnBelow_1, a_voidBelow_1, a_live_1, a_netAll_1, a_netLive_1, a_add_1, a_low_1, a_high_1, a_spare_1, a_copyKind_1, a_copyAmount_1, a_copyVoid_1⟩ := u1
  refine ls_setUp (cap := cap) (n := 2) (v := false) rfl rfl h60 hcap1 (by omega) (by omega) h01 ls_sent fun u2 s2 r2 O2 F2 => ?_
  have hcap2 : ls_cp u2 = nI cap := (ls_cp_sc s2).trans hcap1
  have h02 : ls_Ag cap (ls_nv u2 0).2 [] := by rw [F2 0 (by omega)]; exact h01
  have st1 : (ls_nv u2 1).1 = ls_st 0 0 0 (1, 0, 0, false) false none := by rw [F2 1 (by omega)]; exact O1.2.2.2.2.1
  have T2 := ls_On_T O2
  have s2' := s2.trans s1
  obtain ⟨f_spares_2, f_root_2, f_entries_2, f_cap_2, f_room_2, f_accAdd_2, f_accLow_2, f_accHigh_2, a_left_2, a_right_2, a_up_2, a_count_2, a_kind_2, a_amount_2, a_isVoid_2, a_turnBelow_2, a_voidBelow_2, a_live_2, a_netAll_2, a_netLive_2, a_add_2, a_low_2, a_high_2, a_spare_2, a_copyKind_2, a_copyAmount_2, a_copyVoid_2⟩ := u2
  have hcap2' : f_cap_2 = nI cap := hcap2
  have n1 : (ls_nv (f_spares_2, f_root_2, f_entries_2, f_cap_2, f_room_2, f_accAdd_2, f_accLow_2, f_accHigh_2, a_left_2, upd a_right_2 1 2, upd a_up_2 2 1, a_count_2, a_kind_2, a_amount_2, a_isVoid_2, a_turnBelow_2, a_voidBelow_2, a_live_2, a_netAll_2, a_netLive_2, a_add_2, a_low_2, a_high_2, a_spare_2, a_copyKind_2, a_copyAmount_2, a_copyVoid_2) 1).1 = ls_st 0 2 0 ls_hd false none := by
    have : (ls_nv (f_spares_2, f_root_2, f_entries_2, f_cap_2, f_room_2, f_accAdd_2, f_accLow_2, f_accHigh_2, a_left_2, upd a_right_2 1 2, upd a_up_2 2 1, a_count_2, a_kind_2, a_amount_2, a_isVoid_2, a_turnBelow_2, a_voidBelow_2, a_live_2, a_netAll_2, a_netLive_2, a_add_2, a_low_2, a_high_2, a_spare_2, a_copyKind_2, a_copyAmount_2, a_copyVoid_2) 1).1 = ((ls_nv (f_spares_2, f_root_2, f_entries_2, f_cap_2, f_room_2, f_accAdd_2, f_accLow_2, f_accHigh_2, a_left_2, a_right_2, a_up_2, a_count_2, a_kind_2, a_amount_2, a_isVoid_2, a_turnBelow_2, a_voidBelow_2, a_live_2, a_netAll_2, a_netLive_2, a_add_2, a_low_2, a_high_2, a_spare_2, a_copyKind_2, a_copyAmount_2, a_copyVoid_2) 1).1.1, 2, (ls_nv (f_spares_2, f_root_2, f_entries_2, f_cap_2, f_room_2, f_accAdd_2, f_accLow_2, f_accHigh_2, a_left_2, a_right_2, a_up_2, a_count_2, a_kind_2, a_amount_2, a_isVoid_2, a_turnBelow_2, a_voidBelow_2, a_live_2, a_netAll_2, a_netLive_2, a_add_2, a_low_2, a_high_2, a_spare_2, a_copyKind_2, a_copyAmount_2, a_copyVoid_2) 1).1.2.2) := by
      dsimp only [ls_nv]; simp (disch := omega) only [ls_un, ls_us]
    rw [this, st1]; rfl
  have n2 : ls_nv (f_spares_2, f_root_2, f_entries_2, f_cap_2, f_room_2, f_accAdd_2, f_accLow_2, f_accHigh_2, a_left_2, upd a_right_2 1 2, upd a_up_2 2 1, a_count_2, a_kind_2, a_amount_2, a_isVoid_2, a_turnBelow_2, a_voidBelow_2, a_live_2, a_netAll_2, a_netLive_2, a_add_2, a_low_2, a_high_2, a_spare_2, a_copyKind_2, a_copyAmount_2, a_copyVoid_2) 2 = (ls_uS 1 (ls_nv (f_spares_2, f_root_2, f_entries_2, f_cap_2, f_room_2, f_accAdd_2, f_accLow_2, f_accHigh_2, a_left_2, a_right_2, a_up_2, a_count_2, a_kind_2, a_amount_2, a_isVoid_2, a_turnBelow_2, a_voidBelow_2, a_live_2, a_netAll_2, a_netLive_2, a_add_2, a_low_2, a_high_2, a_spare_2, a_copyKind_2, a_copyAmount_2, a_copyVoid_2) 2).1, (ls_nv (f_spares_2, f_root_2, f_entries_2, f_cap_2, f_room_2, f_accAdd_2, f_accLow_2, f_accHigh_2, a_left_2, a_right_2, a_up_2, a_count_2, a_kind_2, a_amount_2, a_isVoid_2, a_turnBelow_2, a_voidBelow_2, a_live_2, a_netAll_2, a_netLive_2, a_add_2, a_low_2, a_high_2, a_spare_2, a_copyKind_2, a_copyAmount_2, a_copyVoid_2) 2).2) := by
    dsimp only [ls_nv, ls_uS]; simp (disch := omega) only [ls_un, ls_us]; rfl
  have n3 : ls_nv (f_spares_2, f_root_2, f_entries_2, f_cap_2, f_room_2, f_accAdd_2, f_accLow_2, f_accHigh_2, a_left_2, upd a_right_2 1 2, upd a_up_2 2 1, a_count_2, a_kind_2, a_amount_2, a_isVoid_2, a_turnBelow_2, a_voidBelow_2, a_live_2, a_netAll_2, a_netLive_2, a_add_2, a_low_2, a_high_2, a_spare_2, a_copyKind_2, a_copyAmount_2, a_copyVoid_2) 0 = ls_nv (f_spares_2, f_root_2, f_entries_2, f_cap_2, f_room_2, f_accAdd_2, f_accLow_2, f_accHigh_2, a_left_2, a_right_2, a_up_2, a_count_2, a_kind_2, a_amount_2, a_isVoid_2, a_turnBelow_2, a_voidBelow_2, a_live_2, a_netAll_2, a_netLive_2, a_add_2, a_low_2, a_high_2, a_spare_2, a_copyKind_2, a_copyAmount_2, a_copyVoid_2) 0 := by
    dsimp only [ls_nv]; simp (disch := omega) only [ls_un]
  have T3 : ls_T cap (ls_nv (f_spares_2, f_root_2, f_entries_2, f_cap_2, f_room_2, f_accAdd_2, f_accLow_2, f_accHigh_2, a_left_2, upd a_right_2 1 2, upd a_up_2 2 1, a_count_2, a_kind_2, a_amount_2, a_isVoid_2, a_turnBelow_2, a_voidBelow_2, a_live_2, a_netAll_2, a_netLive_2, a_add_2, a_low_2, a_high_2, a_spare_2, a_copyKind_2, a_copyAmount_2, a_copyVoid_2)) 2 1 [ls_tl] := by
    refine ls_T_up T2 ?_ ?_ (fun _ => n2)
    · intro j
      show (if 2 = j then 1 else 0) + 0 ≤ 1
      by_cases e : 2 = j
      · rw [if_pos e]; omega
      · rw [if_neg e]; omega
    · intro j hj hn
      have hj' : 0 < (if 2 = j then 1 else 0) + 0 := hj
      rw [if_neg (Ne.symm hn)] at hj'
      omega
  have h03 : ls_Ag cap (ls_nv (f_spares_2, f_root_2, f_entries_2, f_cap_2, f_room_2, f_accAdd_2, f_accLow_2, f_accHigh_2, a_left_2, upd a_right_2 1 2, upd a_up_2 2 1, a_count_2, a_kind_2, a_amount_2, a_isVoid_2, a_turnBelow_2, a_voidBelow_2, a_live_2, a_netAll_2, a_netLive_2, a_add_2, a_low_2, a_high_2, a_spare_2, a_copyKind_2, a_copyAmount_2, a_copyVoid_2) 0).2 [] := by rw [n3]; exact h02
  refine nm_r (e' := upd a_right_2 1 2) rfl (nm_r (e' := upd a_up_2 2 1) rfl ?_)
  refine ls_pull (i := 1) (l := 0) (r := 2) (p := 0) (x := ls_hd) (A := []) (B := [ls_tl]) rfl h60 hcap2' (by omega) (by omega) (by omega) (by omega) (by omega) n1 h03 (ls_T_Ag T3 h03)
    (ls_oks_nil cap) (ls_T_oks T3) ls_sent (by rw [List.length_nil]; omega) (by rw [List.length_singleton]; omega) fun u4 s4 r4 e4 a4 F4 => ?_
  have On4 : ls_On cap (ls_nv u4) 1 0 0 2 [] ls_hd [ls_tl] := by
    refine ⟨by omega, by omega, rfl, ls_sent, e4.trans n1, ls_T_nil 1, ls_T_fr T3 fun j hj => F4 j ?_, a4⟩
    intro e
    rw [e, ls_ct_cons, ls_ct_nil] at hj
    have : ¬ ls_tl.1 = 1 := by decide
    rw [if_neg this] at hj
    omega
  have T4 : ls_T cap (ls_nv u4) 1 0 (ls_fl []) := ls_On_T On4
  have h04 : ls_Ag cap (ls_nv u4 0).2 [] := by rw [F4 0 (by omega)]; exact h03
  have s4' : ls_sc u4 = (f_spares, f_entries, f_cap, f_room, a_spare, a_copyKind, a_copyAmount, a_copyVoid) := (s4.trans (Eq.trans ls_scX s2')).trans ls_scE
  have hcap4 : ls_cp u4 = nI cap := (ls_cp_sc s4).trans hcap2'
  obtain ⟨f_spares_4, f_root_4, f_entries_4, f_cap_4, f_room_4, f_accAdd_4, f_accLow_4, f_accHigh_4, a_left_4, a_right_4, a_up_4, a_count_4, a_kind_4, a_amount_4, a_isVoid_4, a_turnBelow_4, a_voidBelow_4, a_live_4, a_netAll_4, a_netLive_4, a_add_4, a_low_4, a_high_4, a_spare_4, a_copyKind_4, a_copyAmount_4, a_copyVoid_4⟩ := u4
  have s5 : (f_spares_4, f_entries_4, f_cap_4, f_room_4, a_spare_4, a_copyKind_4, a_copyAmount_4, a_copyVoid_4) = (f_spares, f_entries, f_cap, f_room, a_spare, a_copyKind, a_copyAmount, a_copyVoid) := s4'
  simp only [Prod.mk.injEq] at s5
  obtain ⟨w1, w2, w3, w4, w5, w6, w7, w8⟩ := s5
  refine K (f_spares_4, 1, f_entries_4, f_cap_4, f_room_4, f_accAdd_4, f_accLow_4, f_accHigh_4, a_left_4, a_right_4, a_up_4, a_count_4, a_kind_4, a_amount_4, a_isVoid_4, a_turnBelow_4, a_voidBelow_4, a_live_4, a_netAll_4, a_netLive_4, a_add_4, a_low_4, a_high_4, a_spare_4, a_copyKind_4, a_copyAmount_4, a_copyVoid_4) ⟨h4, h2, h40, by rw [List.length_nil]; omega, ⟨h60, hcap4, h04, ⟨1, rfl, T4⟩, ?_, by rw [List.length_nil]; omega⟩, a_spare, a_copyKind, a_copyAmount, a_copyVoid, ?_, fun j => 42 - j, ?_, ?_⟩
  · intro j
    rw [ls_ct_fl, ls_ct_nil]
    by_cases e : 1 = j
    · rw [if_pos e, if_neg (by omega)]; omega
    · rw [if_neg e]
      by_cases e' : 2 = j
      · rw [if_pos e']; omega
      · rw [if_neg e']; omega
  · rw [ls_scE, w1, w2, w3, w4, w5, w6, w7, w8, hsp, hent, hcap, hroom]
    rfl
  · intro j hj
    have hj' : j < 40 := hj
    exact ⟨hs j hj', by dsimp only; omega, by dsimp only; omega, rfl⟩
  · intro i j hi hj
    have hj' : j < 40 := hj
    dsimp only; omega
end
theorem ls_cl_nat {x : Int32} {r : Int32} {lo hi : Nat} (h : lo ≤ hi) (hh : hi < 2 ^ 31) (hr : r.toInt = ls_cl x.toInt lo hi) : ∃ n, r = nI n ∧ lo ≤ n ∧ n ≤ hi := by
  have h1 : (lo : Int) ≤ r.toInt ∧ r.toInt ≤ (hi : Int) := by rw [hr]; unfold ls_cl; omega
  refine ⟨r.toInt.toNat, Int32.toInt_inj.mp ?_, by omega, by omega⟩
  rw [nI_toInt (by omega)]; omega
theorem ls_X_init {p0 p1 : Int32} {post : SX → Prop} (K : ∀ (u : SX) (cap room : Nat), (nI cap).toInt = ls_cl p0.toInt 4 60 → (nI room).toInt = ls_cl p1.toInt 2 40 → ls_X cap room [] u → post u) : wpX_init post p0 p1 := by
  unfold wpX_init
  refine ls_clamped (by decide) fun r1 h1 => ls_clamped (by decide) fun r2 h2 => ?_
  obtain ⟨cap, e1, c1, c2⟩ := ls_cl_nat (lo := 4) (hi := 60) (by omega) (by omega) h1
  obtain ⟨room, e2, d1, d2⟩ := ls_cl_nat (lo := 2) (hi := 40) (by omega) (by omega) h2
  subst e1; subst e2
  refine ⟨173, ls_i183 (fun a_high' ha => ⟨41, ?_⟩) 173 0 _ (by omega) (by omega) (fun j hj => by omega)⟩
  refine ls_i209l (fun a_spare' hs => ?_) 41 0 _ (by omega) (by omega) (fun j hj => by omega)
  refine ls_i209e (cap := cap) (room := room) c1 c2 d1 d2 rfl rfl rfl rfl hs ?_ fun u' hX => K u' cap room h1 h2 hX
  have hc : (nI cap).toInt = (cap : Int) := nI_toInt (by omega)
  have z : ∀ j, j < 172 → ls_Ee ((0 : Int32), (0 : Int32), a_high' j) (ls_ef cap []) := fun j hj => ⟨Int32.toInt_zero, Int32.toInt_zero, by show (a_high' j).toInt = (cap : Int); rw [ha j hj]; exact hc⟩
  exact ⟨nI_0.symm, nI_0.symm, Int32.toInt_zero, Int32.toInt_zero, z _ (by omega), z _ (by omega), z _ (by omega), z _ (by omega)⟩
end
section
/-! the plain laws of effects -/
def ls_app (e : ls_Ef) (x : Int) : Int := ls_cl (x + e.1) e.2.1 e.2.2
theorem ls_app_th {e f : ls_Ef} {x : Int} (he : e.2.1 ≤ e.2.2) (hf : f.2.1 ≤ f.2.2) : ls_app (ls_th e f) x = ls_app f (ls_app e x) := by
  unfold ls_app ls_th ls_cl; dsimp only; omega
theorem ls_app_in {cap n : Nat} {e : ls_Ef} {x : Int} (h : ls_vE cap n e) : 0 ≤ ls_app e x ∧ ls_app e x ≤ (cap : Int) := by
  unfold ls_vE at h; unfold ls_app ls_cl; omega
theorem ls_app_id {cap : Nat} {x : Int} (h0 : 0 ≤ x) (h1 : x ≤ (cap : Int)) : ls_app (0, 0, (cap : Int)) x = x := by
  unfold ls_app ls_cl; dsimp only; omega
/-- what an entry makes of x -/
def ls_apI (cap : Nat) (z : ls_It) (x : Int) : Int := if z.2.2.2 then x else ls_app (ls_en cap z) x
def ls_rp (cap : Nat) (M : List ls_It) (x : Int) : Int := M.foldl (fun x z => ls_apI cap z x) x
theorem ls_rp_fo {cap : Nat} (hc : cap ≤ 60) {x : Int} : ∀ {M : List ls_It} {n : Nat} {e : ls_Ef}, ls_vE cap n e → ls_oks cap M → ls_rp cap M (ls_app e x) = ls_app (ls_fo cap e (ls_lv M)) x
  | [], _, _, _, _ => rfl
  | z :: M, n, e, h, k => by
    have hz := ls_en_v hc (ls_oks_c k).1
    show ls_rp cap M (ls_apI cap z (ls_app e x)) = _
    cases hv : z.2.2.2
    · rw [ls_lv_f hv]
      have : ls_apI cap z (ls_app e x) = ls_app (ls_th e (ls_en cap z)) x := by
        unfold ls_apI
        rw [hv, if_neg (by decide), ls_app_th h.2.2.2.1 hz.2.2.2.1]
      rw [this]
      exact ls_rp_fo hc (ls_th_v h hz) (ls_oks_c k).2
    · rw [ls_lv_t hv]
      have : ls_apI cap z (ls_app e x) = ls_app e x := by
        unfold ls_apI
        rw [hv, if_pos rfl]
      rw [this]
      exact ls_rp_fo hc h (ls_oks_c k).2
theorem ls_rp_ef {cap : Nat} {M : List ls_It} {x : Int} (hc : cap ≤ 60) (k : ls_oks cap M) (h0 : 0 ≤ x) (h1 : x ≤ (cap : Int)) : ls_rp cap M x = ls_app (ls_ef cap (ls_lv M)) x := by
  have := ls_rp_fo hc (x := x) (ls_id_v cap) k
  rw [ls_app_id h0 h1] at this
  exact this
/-! powers -/
def ls_pw (cap : Nat) (e : ls_Ef) : Nat → ls_Ef
  | 0 => (0, 0, (cap : Int))
  | n + 1 => ls_th (ls_pw cap e n) e
theorem ls_pw_v {cap m : Nat} {e : ls_Ef} (h : ls_vE cap m e) : ∀ n, ls_vE cap (n * m) (ls_pw cap e n)
  | 0 => by rw [Nat.zero_mul]; exact ls_id_v cap
  | n + 1 => by rw [Nat.succ_mul]; exact ls_th_v (ls_pw_v h n) h
theorem ls_pw_add {cap m : Nat} {e : ls_Ef} (h : ls_vE cap m e) (a : Nat) : ∀ b, ls_pw cap e (a + b) = ls_th (ls_pw cap e a) (ls_pw cap e b)
  | 0 => (ls_th_id (ls_pw_v h a)).symm
  | b + 1 => by
    show ls_th (ls_pw cap e (a + b)) e = ls_th (ls_pw cap e a) (ls_th (ls_pw cap e b) e)
    rw [ls_pw_add h a b, ls_th_as (ls_pw_v h b).2.2.2.1 h.2.2.2.1]
def ls_it (F : Int → Int) : Nat → Int → Int
  | 0, x => x
  | n + 1, x => F (ls_it F n x)
theorem ls_pw_it {cap m : Nat} {e : ls_Ef} (h : ls_vE cap m e) {x : Int} (h0 : 0 ≤ x) (h1 : x ≤ (cap : Int)) : ∀ n, ls_app (ls_pw cap e n) x = ls_it (ls_app e) n x
  | 0 => ls_app_id h0 h1
  | n + 1 => by
    show ls_app (ls_th (ls_pw cap e n) e) x = ls_app e (ls_it (ls_app e) n x)
    rw [ls_app_th (ls_pw_v h n).2.2.2.1 h.2.2.2.1, ls_pw_it h h0 h1 n]
theorem ls_it_in {cap m : Nat} {e : ls_Ef} (h : ls_vE cap m e) {x : Int} (h0 : 0 ≤ x) (h1 : x ≤ (cap : Int)) : ∀ n, 0 ≤ ls_it (ls_app e) n x ∧ ls_it (ls_app e) n x ≤ (cap : Int)
  | 0 => ⟨h0, h1⟩
  | n + 1 => ls_app_in h
/-! rest -/
theorem ls_rest_up {e : ls_Ef} {x : Int} (ha : 0 < e.1) (hl : e.2.1 ≤ e.2.2) : ∀ k : Nat, min e.2.2 (e.2.1 + (k : Int)) ≤ ls_it (ls_app e) (k + 1) x ∧ ls_it (ls_app e) (k + 1) x ≤ e.2.2
  | 0 => by
    show min e.2.2 (e.2.1 + ((0 : Nat) : Int)) ≤ ls_app e x ∧ ls_app e x ≤ e.2.2
    unfold ls_app ls_cl; omega
  | k + 1 => by
    have := ls_rest_up (x := x) ha hl k
    show min e.2.2 (e.2.1 + ((k + 1 : Nat) : Int)) ≤ ls_app e (ls_it (ls_app e) (k + 1) x) ∧ ls_app e (ls_it (ls_app e) (k + 1) x) ≤ e.2.2
    generalize ls_it (ls_app e) (k + 1) x = w at *
    unfold ls_app ls_cl; omega
theorem ls_rest_dn {e : ls_Ef} {x : Int} (ha : e.1 < 0) (hl : e.2.1 ≤ e.2.2) : ∀ k : Nat, e.2.1 ≤ ls_it (ls_app e) (k + 1) x ∧ ls_it (ls_app e) (k + 1) x ≤ max e.2.1 (e.2.2 - (k : Int))
  | 0 => by
    show e.2.1 ≤ ls_app e x ∧ ls_app e x ≤ max e.2.1 (e.2.2 - ((0 : Nat) : Int))
    unfold ls_app ls_cl; omega
  | k + 1 => by
    have := ls_rest_dn (x := x) ha hl k
    show e.2.1 ≤ ls_app e (ls_it (ls_app e) (k + 1) x) ∧ ls_app e (ls_it (ls_app e) (k + 1) x) ≤ max e.2.1 (e.2.2 - ((k + 1 : Nat) : Int))
    generalize ls_it (ls_app e) (k + 1) x = w at *
    unfold ls_app ls_cl; omega
theorem ls_rest_eq {e : ls_Ef} {x : Int} (ha : e.1 = 0) (hl : e.2.1 ≤ e.2.2) : ∀ k : Nat, ls_it (ls_app e) (k + 1) x = ls_cl x e.2.1 e.2.2
  | 0 => by
    show ls_app e x = _
    unfold ls_app; rw [ha, Int.add_zero]
  | k + 1 => by
    have := ls_rest_eq (x := x) ha hl k
    show ls_app e (ls_it (ls_app e) (k + 1) x) = _
    rw [this]
    unfold ls_app ls_cl; rw [ha]; omega
theorem ls_rest {cap m : Nat} {e : ls_Ef} {x : Int} (h : ls_vE cap m e) : ls_it (ls_app e) (cap + 1) x = if 0 < e.1 then e.2.2 else if e.1 < 0 then e.2.1 else ls_cl x e.2.1 e.2.2 := by
  obtain ⟨h1, h2, h3, h4, h5⟩ := h
  by_cases a : 0 < e.1
  · rw [if_pos a]
    have := ls_rest_up (x := x) a h4 cap
    omega
  · rw [if_neg a]
    by_cases b : e.1 < 0
    · rw [if_pos b]
      have := ls_rest_dn (x := x) b h4 cap
      omega
    · rw [if_neg b]
      exact ls_rest_eq (by omega) h4 cap
/-! least opening -/
def ls_lo (cap : Nat) (e : ls_Ef) (y : Int) : Nat := if y ≤ e.2.1 then 0 else if e.2.2 < y then cap + 1 else if (cap : Int) < y - e.1 then cap + 1 else (y - e.1).toNat
theorem ls_lo_p {cap m : Nat} {e : ls_Ef} {y : Int} (h : ls_vE cap m e) : ls_lo cap e y ≤ cap + 1 ∧ (∀ i : Nat, i < ls_lo cap e y → ls_app e i < y) ∧ (ls_lo cap e y ≤ cap → y ≤ ls_app e (ls_lo cap e y : Nat)) := by
  obtain ⟨h1, h2, h3, h4, h5⟩ := h
  unfold ls_lo
  by_cases a : y ≤ e.2.1
  · rw [if_pos a]
    refine ⟨by omega, fun i hi => by omega, fun _ => ?_⟩
    unfold ls_app ls_cl; omega
  · rw [if_neg a]
    by_cases b : e.2.2 < y
    · rw [if_pos b]
      refine ⟨by omega, fun i hi => ?_, fun q => by omega⟩
      unfold ls_app ls_cl; omega
    · rw [if_neg b]
      by_cases c : (cap : Int) < y - e.1
      · rw [if_pos c]
        refine ⟨by omega, fun i hi => ?_, fun q => by omega⟩
        unfold ls_app ls_cl; omega
      · rw [if_neg c]
        refine ⟨by omega, fun i hi => ?_, fun q => ?_⟩
        · unfold ls_app ls_cl; omega
        · unfold ls_app ls_cl; omega
/-! openings -/
def ls_cn (F : Int → Int) (y : Int) : Nat → Nat
  | 0 => 0
  | n + 1 => ls_cn F y n + (if F (n : Int) = y then 1 else 0)
theorem ls_cn_le (F : Int → Int) (y : Int) : ∀ n, ls_cn F y n ≤ n
  | 0 => Nat.le_refl _
  | n + 1 => by
    have := ls_cn_le F y n
    show ls_cn F y n + (if F (n : Int) = y then 1 else 0) ≤ n + 1
    by_cases q : F (n : Int) = y
    · rw [if_pos q]; omega
    · rw [if_neg q]; omega
theorem ls_cn_iv {F : Int → Int} {y A B : Int} {c : Nat} (h : ∀ n : Nat, n < c → (F (n : Int) = y ↔ A ≤ (n : Int) ∧ (n : Int) ≤ B)) : ∀ n : Nat, n ≤ c → (ls_cn F y n : Int) = max 0 (min ((n : Int) - 1) B - max 0 A + 1)
  | 0, _ => by show ((0 : Nat) : Int) = _; omega
  | n + 1, hn => by
    have ih := ls_cn_iv h n (by omega)
    have hn' := h n (by omega)
    show ((ls_cn F y n + (if F (n : Int) = y then 1 else 0) : Nat) : Int) = _
    by_cases q : F (n : Int) = y
    · rw [if_pos q]
      have := hn'.mp q
      omega
    · rw [if_neg q]
      have : ¬ (A ≤ (n : Int) ∧ (n : Int) ≤ B) := fun z => q (hn'.mpr z)
      omega
theorem ls_cn_0 {F : Int → Int} {y : Int} {c : Nat} (h : ∀ n : Nat, n < c → F (n : Int) ≠ y) : ∀ n : Nat, n ≤ c → ls_cn F y n = 0
  | 0, _ => rfl
  | n + 1, hn => by
    show ls_cn F y n + (if F (n : Int) = y then 1 else 0) = 0
    rw [ls_cn_0 h n (by omega), if_neg (h n (by omega))]
/-- the class's count -/
def ls_op (cap : Nat) (e : ls_Ef) (y : Int) : Int :=
  if y < e.2.1 ∨ e.2.2 < y then 0 else max 0 (min (cap : Int) (if y = e.2.2 then (cap : Int) else y - e.1) - max 0 (if y = e.2.1 then 0 else y - e.1) + 1)
theorem ls_op_cn {cap m : Nat} {e : ls_Ef} {y : Int} (h : ls_vE cap m e) : (ls_cn (ls_app e) y (cap + 1) : Int) = ls_op cap e y := by
  obtain ⟨h1, h2, h3, h4, h5⟩ := h
  unfold ls_op
  by_cases q : y < e.2.1 ∨ e.2.2 < y
  · rw [if_pos q, ls_cn_0 (c := cap + 1) (fun n hn => ?_) _ (Nat.le_refl _)]
    · rfl
    · unfold ls_app ls_cl; omega
  · rw [if_neg q]
    have k := ls_cn_iv (F := ls_app e) (y := y) (A := if y = e.2.1 then 0 else y - e.1) (B := if y = e.2.2 then (cap : Int) else y - e.1) (c := cap + 1) (fun n hn => by
      unfold ls_app ls_cl
      by_cases q1 : y = e.2.1
      · rw [if_pos q1]
        by_cases q2 : y = e.2.2
        · rw [if_pos q2]; omega
        · rw [if_neg q2]; omega
      · rw [if_neg q1]
        by_cases q2 : y = e.2.2
        · rw [if_pos q2]; omega
        · rw [if_neg q2]; omega) (cap + 1) (Nat.le_refl _)
    rw [k]
    have z : ((cap + 1 : Nat) : Int) - 1 = (cap : Int) := by omega
    rw [z]
end
section
/-! run, rest, leastOpening, openings, repeat -/
/-- what a loaded block gives -/
def ls_Ld (cap : Nat) (es M E1 E2 : List ls_It) (f t : Nat) : Prop := es = E1 ++ (M ++ E2) ∧ E1.length = f ∧ M.length = t - f ∧ ls_oks cap M ∧ ls_vE cap 40 (ls_ef cap (ls_lv M))
theorem ls_Xld {u : SX} {cap room f t : Nat} {es : List ls_It} {p0 p1 : Int32} {post : SX → Prop} (hX : ls_X cap room es u) (e0 : p0 = nI f) (e1 : p1 = nI t) (hft : f ≤ t) (ht : t ≤ es.length)
    (K : ∀ (u' : SX) (M E1 E2 : List ls_It), ls_X cap room es u' → ls_Ld cap es M E1 E2 f t → ls_Ee (ls_ac u') (ls_ef cap (ls_lv M)) → post u') :
    wpX_load post u p0 p1 := by
  have hl := hX.2.2.2.1
  have hr := hX.2.2.1
  have hc := hX.2.2.2.2.1.1
  refine ls_X_load hX e0 e1 hft ht fun u' M E1 E2 hX' h1 h2 h3 h4 h5 => K u' M E1 E2 hX' ⟨h1, h2, h3, h5, ?_⟩ h4
  refine ls_vE_mono (ls_ef_v hc (ls_oks_lv h5)) ?_
  have := ls_lv_le (A := M)
  omega
def ls_Arg (cap n f t x : Nat) (p0 p1 p2 : Int32) : Prop := ls_gd n p0 p1 ∧ p0 = nI f ∧ p1 = nI t ∧ f ≤ t ∧ t ≤ n ∧ ls_mc cap p2 ∧ p2 = nI x ∧ x ≤ cap
theorem ls_X_run {u : SX} {cap room : Nat} {es : List ls_It} {p0 p1 p2 : Int32} {post : Int32 → SX → Prop} (hX : ls_X cap room es u) (K0 : ¬ ls_gd es.length p0 p1 → post (-1) u) (K2 : ls_gd es.length p0 p1 → ¬ ls_mc cap p2 → post (-2) u)
    (K1 : ∀ (f t x : Nat) (u' : SX) (M E1 E2 : List ls_It) (r : Int32), ls_Arg cap es.length f t x p0 p1 p2 → ls_X cap room es u' → ls_Ld cap es M E1 E2 f t → r.toInt = ls_app (ls_ef cap (ls_lv M)) (x : Int) → post r u') :
    wpX_run post u p0 p1 p2 := by
  have hl := hX.2.2.2.1
  have hr := hX.2.2.1
  have hc := hX.2.2.2.2.1.1
  obtain ⟨f_spares, f_root, f_entries, f_cap, f_room, f_accAdd, f_accLow, f_accHigh, a_left, a_right, a_up, a_count, a_kind, a_amount, a_isVoid, a_turnBelow, a_voidBelow, a_live, a_netAll, a_netLive, a_add, a_low, a_high, a_spare, a_copyKind, a_copyAmount, a_copyVoid⟩ := u
  obtain ⟨en, ec, _, _⟩ := ls_X_ent hX
  unfold wpX_run
  refine ls_goodX en (fun g => br_f (by decide) ?_) (fun g => br_t rfl (K0 g))
  obtain ⟨f, t, e0, e1, hft, ht⟩ := ls_gd_nat (by omega) g
  refine br_c (fun h => K2 g fun z => z.1 h) (fun h => br_c (fun h' => ?_) (fun h' => K2 g fun z => h' (by rw [ec]; exact z.2)))
  rw [ec] at h'
  obtain ⟨x, e2, hx⟩ := ls_mc_nat (m := cap) (by omega) ⟨h, h'⟩
  refine ls_Xld hX e0 e1 hft ht fun u' M E1 E2 hX' hL hE => ?_
  obtain ⟨f_spares_1, f_root_1, f_entries_1, f_cap_1, f_room_1, f_accAdd_1, f_accLow_1, f_accHigh_1, a_left_1, a_right_1, a_up_1, a_count_1, a_kind_1, a_amount_1, a_isVoid_1, a_turnBelow_1, a_voidBelow_1, a_live_1, a_netAll_1, a_netLive_1, a_add_1, a_low_1, a_high_1, a_spare_1, a_copyKind_1, a_copyAmount_1, a_copyVoid_1⟩ := u'
  obtain ⟨E1', E2', E3'⟩ := hE
  have A1 : f_accAdd_1.toInt = (ls_ef cap (ls_lv M)).1 := E1'
  have A2 : f_accLow_1.toInt = (ls_ef cap (ls_lv M)).2.1 := E2'
  have A3 : f_accHigh_1.toInt = (ls_ef cap (ls_lv M)).2.2 := E3'
  obtain ⟨v1, v2, v3, v4, v5⟩ := hL.2.2.2.2
  have hxI : p2.toInt = (x : Int) := by rw [e2]; exact nI_toInt (by omega)
  have hs : (p2 + f_accAdd_1).toInt = (x : Int) + (ls_ef cap (ls_lv M)).1 := by rw [Jvm.Kit.i32_add] <;> omega
  refine ls_clamped (by omega) fun r h1 => K1 f t x _ M E1 E2 r ⟨g, e0, e1, hft, ht, ⟨h, h'⟩, e2, hx⟩ hX' hL ?_
  rw [h1, hs, A2, A3]; rfl
theorem ls_X_rest {u : SX} {cap room : Nat} {es : List ls_It} {p0 p1 p2 : Int32} {post : Int32 → SX → Prop} (hX : ls_X cap room es u) (K0 : ¬ ls_gd es.length p0 p1 → post (-1) u) (K2 : ls_gd es.length p0 p1 → ¬ ls_mc cap p2 → post (-2) u)
    (K1 : ∀ (f t x : Nat) (u' : SX) (M E1 E2 : List ls_It) (r : Int32), ls_Arg cap es.length f t x p0 p1 p2 → ls_X cap room es u' → ls_Ld cap es M E1 E2 f t → r.toInt = ls_it (ls_app (ls_ef cap (ls_lv M))) (cap + 1) (x : Int) → post r u') :
    wpX_rest post u p0 p1 p2 := by
  have hl := hX.2.2.2.1
  have hr := hX.2.2.1
  have hc := hX.2.2.2.2.1.1
  obtain ⟨f_spares, f_root, f_entries, f_cap, f_room, f_accAdd, f_accLow, f_accHigh, a_left, a_right, a_up, a_count, a_kind, a_amount, a_isVoid, a_turnBelow, a_voidBelow, a_live, a_netAll, a_netLive, a_add, a_low, a_high, a_spare, a_copyKind, a_copyAmount, a_copyVoid⟩ := u
  obtain ⟨en, ec, _, _⟩ := ls_X_ent hX
  unfold wpX_rest
  refine ls_goodX en (fun g => br_f (by decide) ?_) (fun g => br_t rfl (K0 g))
  obtain ⟨f, t, e0, e1, hft, ht⟩ := ls_gd_nat (by omega) g
  refine br_c (fun h => K2 g fun z => z.1 h) (fun h => br_c (fun h' => ?_) (fun h' => K2 g fun z => h' (by rw [ec]; exact z.2)))
  rw [ec] at h'
  obtain ⟨x, e2, hx⟩ := ls_mc_nat (m := cap) (by omega) ⟨h, h'⟩
  refine ls_Xld hX e0 e1 hft ht fun u' M E1 E2 hX' hL hE => ?_
  obtain ⟨f_spares_1, f_root_1, f_entries_1, f_cap_1, f_room_1, f_accAdd_1, f_accLow_1, f_accHigh_1, a_left_1, a_right_1, a_up_1, a_count_1, a_kind_1, a_amount_1, a_isVoid_1, a_turnBelow_1, a_voidBelow_1, a_live_1, a_netAll_1, a_netLive_1, a_add_1, a_low_1, a_high_1, a_spare_1, a_copyKind_1, a_copyAmount_1, a_copyVoid_1⟩ := u'
  obtain ⟨E1', E2', E3'⟩ := hE
  have A1 : f_accAdd_1.toInt = (ls_ef cap (ls_lv M)).1 := E1'
  have A2 : f_accLow_1.toInt = (ls_ef cap (ls_lv M)).2.1 := E2'
  have A3 : f_accHigh_1.toInt = (ls_ef cap (ls_lv M)).2.2 := E3'
  have hv := hL.2.2.2.2
  have hR := ls_rest (x := (x : Int)) hv
  obtain ⟨v1, v2, v3, v4, v5⟩ := hv
  have hxI : p2.toInt = (x : Int) := by rw [e2]; exact nI_toInt (by omega)
  have k1 := fun r hr => K1 f t x (f_spares_1, f_root_1, f_entries_1, f_cap_1, f_room_1, f_accAdd_1, f_accLow_1, f_accHigh_1, a_left_1, a_right_1, a_up_1, a_count_1, a_kind_1, a_amount_1, a_isVoid_1, a_turnBelow_1, a_voidBelow_1, a_live_1, a_netAll_1, a_netLive_1, a_add_1, a_low_1, a_high_1, a_spare_1, a_copyKind_1, a_copyAmount_1, a_copyVoid_1) M E1 E2 r ⟨g, e0, e1, hft, ht, ⟨h, h'⟩, e2, hx⟩ hX' hL hr
  refine br_c (fun q => br_c (fun q' => ?_) (fun q' => k1 _ ?_)) (fun q => k1 _ ?_)
  · rw [Int32.le_iff_toInt_le, Int32.toInt_zero, A1] at q q'
    refine ls_clamped (by omega) fun r h1 => k1 r ?_
    rw [hR, if_neg (by omega), if_neg (by omega), h1, hxI, A2, A3]
  · rw [Int32.le_iff_toInt_le, Int32.toInt_zero, A1] at q q'
    rw [hR, if_neg (by omega), if_pos (by omega), A2]
  · rw [Int32.le_iff_toInt_le, Int32.toInt_zero, A1] at q
    rw [hR, if_pos (by omega), A3]
theorem ls_X_least {u : SX} {cap room : Nat} {es : List ls_It} {p0 p1 p2 : Int32} {post : Int32 → SX → Prop} (hX : ls_X cap room es u) (K0 : ¬ ls_gd es.length p0 p1 → post (-1) u) (K2 : ls_gd es.length p0 p1 → ¬ ls_mc cap p2 → post (-2) u)
    (K1 : ∀ (f t x : Nat) (u' : SX) (M E1 E2 : List ls_It) (r : Int32), ls_Arg cap es.length f t x p0 p1 p2 → ls_X cap room es u' → ls_Ld cap es M E1 E2 f t →
      r = (if ls_lo cap (ls_ef cap (ls_lv M)) (x : Int) ≤ cap then nI (ls_lo cap (ls_ef cap (ls_lv M)) (x : Int)) else -3) → post r u') :
    wpX_leastOpening post u p0 p1 p2 := by
  have hl := hX.2.2.2.1
  have hr := hX.2.2.1
  have hc := hX.2.2.2.2.1.1
  obtain ⟨f_spares, f_root, f_entries, f_cap, f_room, f_accAdd, f_accLow, f_accHigh, a_left, a_right, a_up, a_count, a_kind, a_amount, a_isVoid, a_turnBelow, a_voidBelow, a_live, a_netAll, a_netLive, a_add, a_low, a_high, a_spare, a_copyKind, a_copyAmount, a_copyVoid⟩ := u
  obtain ⟨en, ec, _, _⟩ := ls_X_ent hX
  unfold wpX_leastOpening
  refine ls_goodX en (fun g => br_f (by decide) ?_) (fun g => br_t rfl (K0 g))
  obtain ⟨f, t, e0, e1, hft, ht⟩ := ls_gd_nat (by omega) g
  refine br_c (fun h => K2 g fun z => z.1 h) (fun h => br_c (fun h' => ?_) (fun h' => K2 g fun z => h' (by rw [ec]; exact z.2)))
  rw [ec] at h'
  obtain ⟨x, e2, hx⟩ := ls_mc_nat (m := cap) (by omega) ⟨h, h'⟩
  refine ls_Xld hX e0 e1 hft ht fun u' M E1 E2 hX' hL hE => ?_
  obtain ⟨f_spares_1, f_root_1, f_entries_1, f_cap_1, f_room_1, f_accAdd_1, f_accLow_1, f_accHigh_1, a_left_1, a_right_1, a_up_1, a_count_1, a_kind_1, a_amount_1, a_isVoid_1, a_turnBelow_1, a_voidBelow_1, a_live_1, a_netAll_1, a_netLive_1, a_add_1, a_low_1, a_high_1, a_spare_1, a_copyKind_1, a_copyAmount_1, a_copyVoid_1⟩ := u'
  have ec1 := (ls_X_ent hX').2.1
  obtain ⟨E1', E2', E3'⟩ := hE
  have A1 : f_accAdd_1.toInt = (ls_ef cap (ls_lv M)).1 := E1'
  have A2 : f_accLow_1.toInt = (ls_ef cap (ls_lv M)).2.1 := E2'
  have A3 : f_accHigh_1.toInt = (ls_ef cap (ls_lv M)).2.2 := E3'
  obtain ⟨v1, v2, v3, v4, v5⟩ := hL.2.2.2.2
  have hxI : p2.toInt = (x : Int) := by rw [e2]; exact nI_toInt (by omega)
  have hcI : f_cap_1.toInt = (cap : Int) := by rw [ec1]; exact nI_toInt (by omega)
  have hs : (p2 - f_accAdd_1).toInt = (x : Int) - (ls_ef cap (ls_lv M)).1 := by rw [Jvm.Kit.i32_sub] <;> omega
  have k1 := fun r hr => K1 f t x (f_spares_1, f_root_1, f_entries_1, f_cap_1, f_room_1, f_accAdd_1, f_accLow_1, f_accHigh_1, a_left_1, a_right_1, a_up_1, a_count_1, a_kind_1, a_amount_1, a_isVoid_1, a_turnBelow_1, a_voidBelow_1, a_live_1, a_netAll_1, a_netLive_1, a_add_1, a_low_1, a_high_1, a_spare_1, a_copyKind_1, a_copyAmount_1, a_copyVoid_1) M E1 E2 r ⟨g, e0, e1, hft, ht, ⟨h, h'⟩, e2, hx⟩ hX' hL hr
  generalize hef : ls_ef cap (ls_lv M) = e at *
  refine br_c (fun q1 => br_c (fun q2 => nm_r (e' := p2 - f_accAdd_1) rfl (br_c (fun q3 => br_c (fun q4 => k1 _ ?_) (fun q4 => k1 _ ?_)) (fun q3 => k1 _ ?_))) (fun q2 => k1 _ ?_)) (fun q1 => k1 _ ?_)
  · rw [Int32.lt_iff_toInt_lt, A2, hxI] at q1
    rw [Int32.le_iff_toInt_le, A3, hxI] at q2
    rw [Int32.le_iff_toInt_le, hs, hcI] at q3
    rw [Int32.le_iff_toInt_le, hs, Int32.toInt_zero] at q4
    have : ls_lo cap e (x : Int) = ((x : Int) - e.1).toNat := by unfold ls_lo; rw [if_neg (by omega), if_neg (by omega), if_neg (by omega)]
    rw [this, if_pos (by omega)]
    apply Int32.toInt_inj.mp
    rw [hs, nI_toInt (by omega)]; omega
  · rw [Int32.lt_iff_toInt_lt, A2, hxI] at q1
    rw [Int32.le_iff_toInt_le, A3, hxI] at q2
    rw [Int32.le_iff_toInt_le, hs, hcI] at q3
    rw [Int32.le_iff_toInt_le, hs, Int32.toInt_zero] at q4
    have : ls_lo cap e (x : Int) = 0 := by unfold ls_lo; rw [if_neg (by omega), if_neg (by omega), if_neg (by omega)]; omega
    rw [this, if_pos (by omega)]; exact nI_0.symm
  · rw [Int32.lt_iff_toInt_lt, A2, hxI] at q1
    rw [Int32.le_iff_toInt_le, A3, hxI] at q2
    rw [Int32.le_iff_toInt_le, hs, hcI] at q3
    have : ls_lo cap e (x : Int) = cap + 1 := by unfold ls_lo; rw [if_neg (by omega), if_neg (by omega), if_pos (by omega)]
    rw [this, if_neg (by omega)]
  · rw [Int32.lt_iff_toInt_lt, A2, hxI] at q1
    rw [Int32.le_iff_toInt_le, A3, hxI] at q2
    have : ls_lo cap e (x : Int) = cap + 1 := by unfold ls_lo; rw [if_neg (by omega), if_pos (by omega)]
    rw [this, if_neg (by omega)]
  · rw [Int32.lt_iff_toInt_lt, A2, hxI] at q1
    have : ls_lo cap e (x : Int) = 0 := by unfold ls_lo; rw [if_pos (by omega)]
    rw [this, if_pos (by omega)]; exact nI_0.symm
section
variable {f_spares f_root f_entries f_cap f_room f_accAdd f_accLow f_accHigh : Int32} {a_left a_right a_up a_count a_kind a_amount a_isVoid a_turnBelow a_voidBelow a_live a_netAll a_netLive a_add a_low a_high a_spare a_copyKind a_copyAmount a_copyVoid : Nat → Int32}
theorem ls_o91 {post : Int32 → SX → Prop} {cap : Nat} {z0 z1 : Int32} {A B : Int} (hc : cap ≤ 60) (hcI : f_cap.toInt = (cap : Int)) (h0 : z0.toInt = A) (h1 : z1.toInt = B) (hA : -10000 ≤ A ∧ A ≤ 10000) (hB : -10000 ≤ B ∧ B ≤ 10000)
    (K : ∀ r : Int32, r.toInt = max 0 (min (cap : Int) B - max 0 A + 1) → post r (f_spares, f_root, f_entries, f_cap, f_room, f_accAdd, f_accLow, f_accHigh, a_left, a_right, a_up, a_count, a_kind, a_amount, a_isVoid, a_turnBelow, a_voidBelow, a_live, a_netAll, a_netLive, a_add, a_low, a_high, a_spare, a_copyKind, a_copyAmount, a_copyVoid)) : wX_openings_91 post z0 z1 f_spares f_root f_entries f_cap f_room f_accAdd f_accLow f_accHigh a_left a_right a_up a_count a_kind a_amount a_isVoid a_turnBelow a_voidBelow a_live a_netAll a_netLive a_add a_low a_high a_spare a_copyKind a_copyAmount a_copyVoid := by
  have k116 : ∀ x4 x5 : Int32, x4.toInt = max 0 A → x5.toInt = min (cap : Int) B → wX_openings_116 post x4 x5 f_spares f_root f_entries f_cap f_room f_accAdd f_accLow f_accHigh a_left a_right a_up a_count a_kind a_amount a_isVoid a_turnBelow a_voidBelow a_live a_netAll a_netLive a_add a_low a_high a_spare a_copyKind a_copyAmount a_copyVoid := by
    intro x4 x5 h4 h5
    unfold wX_openings_116
    refine br_c (fun q => K _ ?_) (fun q => K _ ?_)
    · rw [Int32.le_iff_toInt_le, h4, h5] at q
      have s : (x5 - x4).toInt = min (cap : Int) B - max 0 A := by rw [Jvm.Kit.i32_sub] <;> omega
      have o : (1 : Int32).toInt = 1 := by decide
      rw [Jvm.Kit.i32_add] <;> omega
    · rw [Int32.le_iff_toInt_le, h4, h5] at q
      rw [Int32.toInt_zero]; omega
  have k101 : ∀ x4 : Int32, x4.toInt = max 0 A → wX_openings_101 post x4 z1 f_spares f_root f_entries f_cap f_room f_accAdd f_accLow f_accHigh a_left a_right a_up a_count a_kind a_amount a_isVoid a_turnBelow a_voidBelow a_live a_netAll a_netLive a_add a_low a_high a_spare a_copyKind a_copyAmount a_copyVoid := by
    intro x4 h4
    unfold wX_openings_101
    refine br_c (fun q => k116 _ _ h4 ?_) (fun q => k116 _ _ h4 ?_)
    · rw [Int32.le_iff_toInt_le, h1, hcI] at q; omega
    · rw [Int32.le_iff_toInt_le, h1, hcI] at q; omega
  unfold wX_openings_91
  refine br_c (fun q => k101 _ ?_) (fun q => k101 _ ?_)
  · rw [Int32.le_iff_toInt_le, h0, Int32.toInt_zero] at q; omega
  · rw [Int32.le_iff_toInt_le, h0, Int32.toInt_zero] at q; rw [Int32.toInt_zero]; omega
end
theorem ls_X_open {u : SX} {cap room : Nat} {es : List ls_It} {p0 p1 p2 : Int32} {post : Int32 → SX → Prop} (hX : ls_X cap room es u) (K0 : ¬ ls_gd es.length p0 p1 → post (-1) u) (K2 : ls_gd es.length p0 p1 → ¬ ls_mc cap p2 → post (-2) u)
    (K1 : ∀ (f t x : Nat) (u' : SX) (M E1 E2 : List ls_It) (r : Int32), ls_Arg cap es.length f t x p0 p1 p2 → ls_X cap room es u' → ls_Ld cap es M E1 E2 f t → r.toInt = ls_op cap (ls_ef cap (ls_lv M)) (x : Int) → post r u') :
    wpX_openings post u p0 p1 p2 := by
  have hl := hX.2.2.2.1
  have hr := hX.2.2.1
  have hc := hX.2.2.2.2.1.1
  obtain ⟨f_spares, f_root, f_entries, f_cap, f_room, f_accAdd, f_accLow, f_accHigh, a_left, a_right, a_up, a_count, a_kind, a_amount, a_isVoid, a_turnBelow, a_voidBelow, a_live, a_netAll, a_netLive, a_add, a_low, a_high, a_spare, a_copyKind, a_copyAmount, a_copyVoid⟩ := u
  obtain ⟨en, ec, _, _⟩ := ls_X_ent hX
  unfold wpX_openings
  refine ls_goodX en (fun g => br_f (by decide) ?_) (fun g => br_t rfl (K0 g))
  obtain ⟨f, t, e0, e1, hft, ht⟩ := ls_gd_nat (by omega) g
  refine br_c (fun h => K2 g fun z => z.1 h) (fun h => br_c (fun h' => ?_) (fun h' => K2 g fun z => h' (by rw [ec]; exact z.2)))
  rw [ec] at h'
  obtain ⟨x, e2, hx⟩ := ls_mc_nat (m := cap) (by omega) ⟨h, h'⟩
  refine ls_Xld hX e0 e1 hft ht fun u' M E1 E2 hX' hL hE => ?_
  obtain ⟨f_spares_1, f_root_1, f_entries_1, f_cap_1, f_room_1, f_accAdd_1, f_accLow_1, f_accHigh_1, a_left_1, a_right_1, a_up_1, a_count_1, a_kind_1, a_amount_1, a_isVoid_1, a_turnBelow_1, a_voidBelow_1, a_live_1, a_netAll_1, a_netLive_1, a_add_1, a_low_1, a_high_1, a_spare_1, a_copyKind_1, a_copyAmount_1, a_copyVoid_1⟩ := u'
  have ec1 := (ls_X_ent hX').2.1
  obtain ⟨E1', E2', E3'⟩ := hE
  have A1 : f_accAdd_1.toInt = (ls_ef cap (ls_lv M)).1 := E1'
  have A2 : f_accLow_1.toInt = (ls_ef cap (ls_lv M)).2.1 := E2'
  have A3 : f_accHigh_1.toInt = (ls_ef cap (ls_lv M)).2.2 := E3'
  obtain ⟨v1, v2, v3, v4, v5⟩ := hL.2.2.2.2
  have hxI : p2.toInt = (x : Int) := by rw [e2]; exact nI_toInt (by omega)
  have hcI : f_cap_1.toInt = (cap : Int) := by rw [ec1]; exact nI_toInt (by omega)
  have hs : (p2 - f_accAdd_1).toInt = (x : Int) - (ls_ef cap (ls_lv M)).1 := by rw [Jvm.Kit.i32_sub] <;> omega
  have k1 := fun r hr => K1 f t x (f_spares_1, f_root_1, f_entries_1, f_cap_1, f_room_1, f_accAdd_1, f_accLow_1, f_accHigh_1, a_left_1, a_right_1, a_up_1, a_count_1, a_kind_1, a_amount_1, a_isVoid_1, a_turnBelow_1, a_voidBelow_1, a_live_1, a_netAll_1, a_netLive_1, a_add_1, a_low_1, a_high_1, a_spare_1, a_copyKind_1, a_copyAmount_1, a_copyVoid_1) M E1 E2 r ⟨g, e0, e1, hft, ht, ⟨h, h'⟩, e2, hx⟩ hX' hL hr
  generalize hef : ls_ef cap (ls_lv M) = e at *
  have k68 : ¬ ((x : Int) < e.2.1 ∨ e.2.2 < (x : Int)) → ∀ z0 : Int32, z0.toInt = (if (x : Int) = e.2.1 then 0 else (x : Int) - e.1) → wX_openings_68 post p2 z0 f_spares_1 f_root_1 f_entries_1 f_cap_1 f_room_1 f_accAdd_1 f_accLow_1 f_accHigh_1 a_left_1 a_right_1 a_up_1 a_count_1 a_kind_1 a_amount_1 a_isVoid_1 a_turnBelow_1 a_voidBelow_1 a_live_1 a_netAll_1 a_netLive_1 a_add_1 a_low_1 a_high_1 a_spare_1 a_copyKind_1 a_copyAmount_1 a_copyVoid_1 := by
    intro hin z0 hz0
    have bz : -10000 ≤ (if (x : Int) = e.2.1 then 0 else (x : Int) - e.1) ∧ (if (x : Int) = e.2.1 then 0 else (x : Int) - e.1) ≤ 10000 := by
      by_cases w : (x : Int) = e.2.1
      · rw [if_pos w]; omega
      · rw [if_neg w]; omega
    unfold wX_openings_68
    refine br_c (fun q => ?_) (fun q => ?_)
    · have q' : (x : Int) = e.2.2 := by rw [← hxI, ← A3, q]
      refine ls_o91 hc hcI hz0 hcI bz (by omega) fun r hr => k1 r ?_
      unfold ls_op
      rw [if_neg hin, if_pos q', hr]
    · have q' : (x : Int) ≠ e.2.2 := fun w => q (Int32.toInt_inj.mp (by rw [hxI, A3, w]))
      refine ls_o91 hc hcI hz0 hs bz (by omega) fun r hr => k1 r ?_
      unfold ls_op
      rw [if_neg hin, if_neg q', hr]
  refine br_c (fun q1 => k1 _ ?_) (fun q1 => br_c (fun q2 => br_c (fun q3 => k68 ?_ _ ?_) (fun q3 => k68 ?_ _ ?_)) (fun q2 => k1 _ ?_))
  · rw [Int32.lt_iff_toInt_lt, A2, hxI] at q1
    unfold ls_op; rw [if_pos (Or.inl q1)]; exact Int32.toInt_zero
  · rw [Int32.lt_iff_toInt_lt, A2, hxI] at q1
    rw [Int32.le_iff_toInt_le, A3, hxI] at q2
    omega
  · rw [if_pos (by rw [← hxI, ← A2, q3])]; exact Int32.toInt_zero
  · rw [Int32.lt_iff_toInt_lt, A2, hxI] at q1
    rw [Int32.le_iff_toInt_le, A3, hxI] at q2
    omega
  · rw [if_neg (fun w => q3 (Int32.toInt_inj.mp (by rw [hxI, A2, w])))]; exact hs
  · rw [Int32.le_iff_toInt_le, A3, hxI] at q2
    unfold ls_op; rw [if_pos (Or.inr (by omega))]; exact Int32.toInt_zero
end
section
/-! repeat -/
theorem ls_tn32 {n : Nat} (h : n < 2 ^ 32) : (nI n).toBitVec.toNat = n := Nat.mod_eq_of_lt h
theorem ls_and1 {n : Nat} (h : n < 2 ^ 31) : nI n &&& 1 = nI (n % 2) := by
  apply Int32.toBitVec_inj.mp
  apply BitVec.eq_of_toNat_eq
  have e : ((1 : Int32).toBitVec.toNat) = 2 ^ 1 - 1 := by decide
  rw [Int32.toBitVec_and, BitVec.toNat_and, e, Nat.and_two_pow_sub_one_eq_mod, ls_tn32 (by omega), ls_tn32 (by omega)]
theorem ls_shN {n k : Nat} (h : n < 2 ^ 31) (s : Int32) (hs : (s.toBitVec.smod 32).toNat = k) : nI n >>> s = nI (n / 2 ^ k) := by
  apply Int32.toInt_inj.mp
  have h2 : n / 2 ^ k ≤ n := Nat.div_le_self _ _
  have e : (nI n >>> s).toInt = (nI n).toInt >>> k := by
    show ((nI n).toBitVec.sshiftRight (s.toBitVec.smod 32).toNat).toInt = _
    rw [hs, BitVec.toInt_sshiftRight]
    rfl
  rw [e, nI_toInt h, nI_toInt (by omega), Int.shiftRight_eq_div_pow]
  rfl
theorem ls_sl : ∀ n, n < 32 → ((nI n &&& 31).toBitVec.smod 32).toNat = n := by decide +kernel
theorem ls_bit {n b : Nat} (h : n < 2 ^ 31) (hb : b < 32) : ((nI n >>> (nI b &&& 31)) &&& 1 = 1) ↔ n / 2 ^ b % 2 = 1 := by
  have h2 : n / 2 ^ b ≤ n := Nat.div_le_self _ _
  rw [ls_shN h _ (ls_sl b hb), ls_and1 (by omega)]
  constructor
  · intro e
    have e' : nI (n / 2 ^ b % 2) = nI 1 := e
    rwa [nI_eq (by omega) (by omega)] at e'
  · intro e
    rw [e]; rfl
section
variable {f_spares f_root f_entries f_cap f_room f_accAdd f_accLow f_accHigh : Int32} {a_left a_right a_up a_count a_kind a_amount a_isVoid a_turnBelow a_voidBelow a_live a_netAll a_netLive a_add a_low a_high a_spare a_copyKind a_copyAmount a_copyVoid : Nat → Int32}
theorem ls_r101 {post : Int32 → SX → Prop} {J : Int32 → Int32 → Int32 → ls_J} {x3 x4 x5 x6 x7 : Int32} {cap m b : Nat} {e : ls_Ef} (hc : cap ≤ 60) (hm : m ≤ 100000) (he : ls_Ee (x5, x6, x7) e) (hv : ls_vE cap m e)
    (K : ∀ y5 y6 y7 : Int32, ls_Ee (y5, y6, y7) (ls_th e e) → J y5 y6 y7 (nI (b + 1)) f_spares f_root f_entries f_cap f_room f_accAdd f_accLow f_accHigh a_left a_right a_up a_count a_kind a_amount a_isVoid a_turnBelow a_voidBelow a_live a_netAll a_netLive a_add a_low a_high a_spare a_copyKind a_copyAmount a_copyVoid) :
    wX_repeat_101 post J x3 x4 x5 x6 x7 (nI b) f_spares f_root f_entries f_cap f_room f_accAdd f_accLow f_accHigh a_left a_right a_up a_count a_kind a_amount a_isVoid a_turnBelow a_voidBelow a_live a_netAll a_netLive a_add a_low a_high a_spare a_copyKind a_copyAmount a_copyVoid := by
  obtain ⟨e1, e2, e3⟩ := he
  obtain ⟨v1, v2, v3, v4, v5⟩ := hv
  dsimp only at e1 e2 e3
  have s1 : (x6 + x5).toInt = e.2.1 + e.1 := by rw [Jvm.Kit.i32_add] <;> omega
  have s2 : (x7 + x5).toInt = e.2.2 + e.1 := by rw [Jvm.Kit.i32_add] <;> omega
  have s3 : (x5 + x5).toInt = e.1 + e.1 := by rw [Jvm.Kit.i32_add] <;> omega
  unfold wX_repeat_101
  refine ls_clamped (by omega) fun r1 h1 => ls_clamped (by omega) fun r2 h2 => nm_r (e' := x5 + x5) rfl (nm_r (e' := nI (b + 1)) (nI_1 b) (K _ _ _ ⟨s3, ?_, ?_⟩))
  · show r1.toInt = ls_cl (e.2.1 + e.1) e.2.1 e.2.2
    rw [h1, s1, e2, e3]
  · show r2.toInt = ls_cl (e.2.2 + e.1) e.2.1 e.2.2
    rw [h2, s2, e2, e3]
theorem ls_r73 {post : Int32 → SX → Prop} {cap x T : Nat} {e : ls_Ef} (hc : cap ≤ 60) (hx : x ≤ cap) (hT : T ≤ 200) (hv : ls_vE cap 40 e)
    (K : ∀ r t1 t2 t3 : Int32, r.toInt = ls_app (ls_pw cap e T) (x : Int) → post r (f_spares, f_root, f_entries, f_cap, f_room, t1, t2, t3, a_left, a_right, a_up, a_count, a_kind, a_amount, a_isVoid, a_turnBelow, a_voidBelow, a_live, a_netAll, a_netLive, a_add, a_low, a_high, a_spare, a_copyKind, a_copyAmount, a_copyVoid)) :
    ∀ (n b : Nat) (x5 x6 x7 t1 t2 t3 : Int32), 8 - b < n → b ≤ 8 → ls_Ee (t1, t2, t3) (ls_pw cap e (T % 2 ^ b)) → ls_Ee (x5, x6, x7) (ls_pw cap e (2 ^ b)) →
      wX_repeat_73 post (nI x) (nI T) n x5 x6 x7 (nI b) f_spares f_root f_entries f_cap f_room t1 t2 t3 a_left a_right a_up a_count a_kind a_amount a_isVoid a_turnBelow a_voidBelow a_live a_netAll a_netLive a_add a_low a_high a_spare a_copyKind a_copyAmount a_copyVoid := by
  intro n
  induction n with
  | zero => intro b x5 x6 x7 t1 t2 t3 h; omega
  | succ n ih =>
    intro b x5 x6 x7 t1 t2 t3 hn hb ht hp
    by_cases h8 : b = 8
    · subst h8
      have eT : T % 2 ^ 8 = T := Nat.mod_eq_of_lt (by omega)
      rw [eT] at ht
      have hv' := ls_pw_v hv T
      obtain ⟨e1, e2, e3⟩ := ht
      obtain ⟨v1, v2, v3, v4, v5⟩ := hv'
      dsimp only at e1 e2 e3
      have hxI : (nI x).toInt = (x : Int) := nI_toInt (by omega)
      have s : (nI x + t1).toInt = (x : Int) + (ls_pw cap e T).1 := by rw [Jvm.Kit.i32_add] <;> omega
      refine br_t (nI_le (a := 8) (b := 8) (by omega) (by omega)) (ls_clamped (by omega) fun r h1 => K r t1 t2 t3 ?_)
      rw [h1, s, e2, e3]; rfl
    · have hp2 : 2 ^ b ≤ 128 := Nat.pow_le_pow_right (by omega) (show b ≤ 7 by omega)
      have vb := ls_pw_v hv (2 ^ b)
      have hmod : T % 2 ^ b < 2 ^ b := Nat.mod_lt _ (Nat.two_pow_pos b)
      have vt := ls_pw_v hv (T % 2 ^ b)
      have e2 : ls_th (ls_pw cap e (2 ^ b)) (ls_pw cap e (2 ^ b)) = ls_pw cap e (2 ^ (b + 1)) := by
        rw [← ls_pw_add hv, Nat.pow_succ]; congr 1; omega
      have hs := Nat.mod_pow_succ (b := 2) (k := b) (x := T)
      have hbit := ls_bit (n := T) (b := b) (by omega) (by omega)
      have bm : 2 ^ b * 40 ≤ 100000 := by omega
      have tm : T % 2 ^ b * 40 ≤ 100000 := by omega
      refine br_f (nI_ge (b := 8) (by omega) (by omega)) (br_c (fun q => ?_) (fun q => ?_))
      · rw [hbit] at q
        rw [q, Nat.mul_one] at hs
        refine ls_thE (e := ls_pw cap e (T % 2 ^ b)) (f := ls_pw cap e (2 ^ b)) hc tm bm ht hp vt vb fun w1 w2 w3 hw => ?_
        refine ls_r101 hc bm hp vb fun y5 y6 y7 hy => ih (b + 1) y5 y6 y7 w1 w2 w3 (by omega) (by omega) ?_ (by rw [← e2]; exact hy)
        rw [hs, ls_pw_add hv]; exact hw
      · have q0 : T / 2 ^ b % 2 = 0 := by
          have : ¬ T / 2 ^ b % 2 = 1 := fun z => q (hbit.mpr z)
          omega
        rw [q0, Nat.mul_zero, Nat.add_zero] at hs
        refine ls_r101 hc bm hp vb fun y5 y6 y7 hy => ih (b + 1) y5 y6 y7 t1 t2 t3 (by omega) (by omega) ?_ (by rw [← e2]; exact hy)
        rw [hs]; exact ht
end
section
variable {f_spares f_root f_entries f_cap f_room f_accAdd f_accLow f_accHigh : Int32} {a_left a_right a_up a_count a_kind a_amount a_isVoid a_turnBelow a_voidBelow a_live a_netAll a_netLive a_add a_low a_high a_spare a_copyKind a_copyAmount a_copyVoid : Nat → Int32}
variable {f_accAdd' f_accLow' f_accHigh' : Int32}
theorem ls_X_acX {cap room : Nat} {es : List ls_It} (hX : ls_X cap room es (f_spares, f_root, f_entries, f_cap, f_room, f_accAdd, f_accLow, f_accHigh, a_left, a_right, a_up, a_count, a_kind, a_amount, a_isVoid, a_turnBelow, a_voidBelow, a_live, a_netAll, a_netLive, a_add, a_low, a_high, a_spare, a_copyKind, a_copyAmount, a_copyVoid)) : ls_X cap room es (f_spares, f_root, f_entries, f_cap, f_room, f_accAdd', f_accLow', f_accHigh', a_left, a_right, a_up, a_count, a_kind, a_amount, a_isVoid, a_turnBelow, a_voidBelow, a_live, a_netAll, a_netLive, a_add, a_low, a_high, a_spare, a_copyKind, a_copyAmount, a_copyVoid) := by
  obtain ⟨h1, h2, h3, h4, h5, h6⟩ := hX
  exact ⟨h1, h2, h3, h4, ls_XcX h5, h6⟩
end
theorem ls_X_repeat {u : SX} {cap room : Nat} {es : List ls_It} {p0 p1 p2 p3 : Int32} {post : Int32 → SX → Prop} (hX : ls_X cap room es u) (K0 : ¬ ls_gd es.length p0 p1 → post (-1) u) (K2 : ls_gd es.length p0 p1 → ¬ ls_mc cap p2 → post (-2) u)
    (K3 : ls_gd es.length p0 p1 → ls_mc cap p2 → ¬ ls_mc 200 p3 → post (-3) u)
    (K1 : ∀ (f t x T : Nat) (u' : SX) (M E1 E2 : List ls_It) (r : Int32), ls_Arg cap es.length f t x p0 p1 p2 → ls_mc 200 p3 → p3 = nI T → T ≤ 200 → ls_X cap room es u' → ls_Ld cap es M E1 E2 f t → r.toInt = ls_it (ls_app (ls_ef cap (ls_lv M))) T (x : Int) → post r u') :
    wpX_repeat post u p0 p1 p2 p3 := by
  have hl := hX.2.2.2.1
  have hr := hX.2.2.1
  have hc := hX.2.2.2.2.1.1
  obtain ⟨f_spares, f_root, f_entries, f_cap, f_room, f_accAdd, f_accLow, f_accHigh, a_left, a_right, a_up, a_count, a_kind, a_amount, a_isVoid, a_turnBelow, a_voidBelow, a_live, a_netAll, a_netLive, a_add, a_low, a_high, a_spare, a_copyKind, a_copyAmount, a_copyVoid⟩ := u
  obtain ⟨en, ec, _, _⟩ := ls_X_ent hX
  unfold wpX_repeat
  refine ls_goodX en (fun g => br_f (by decide) ?_) (fun g => br_t rfl (K0 g))
  obtain ⟨f, t, e0, e1, hft, ht⟩ := ls_gd_nat (by omega) g
  refine br_c (fun h => K2 g fun z => z.1 h) (fun h => br_c (fun h' => ?_) (fun h' => K2 g fun z => h' (by rw [ec]; exact z.2)))
  rw [ec] at h'
  refine br_c (fun h3 => K3 g ⟨h, h'⟩ fun z => z.1 h3) (fun h3 => br_c (fun h3' => ?_) (fun h3' => K3 g ⟨h, h'⟩ fun z => h3' z.2))
  obtain ⟨x, e2, hx⟩ := ls_mc_nat (m := cap) (by omega) ⟨h, h'⟩
  have mc3 : ls_mc 200 p3 := ⟨h3, h3'⟩
  obtain ⟨T, e3, hT⟩ := ls_mc_nat (m := 200) (by omega) mc3
  refine ls_Xld hX e0 e1 hft ht fun u' M E1 E2 hX' hL hE => ?_
  have hv := hL.2.2.2.2
  have oM := hL.2.2.2.1
  obtain ⟨f_spares_1, f_root_1, f_entries_1, f_cap_1, f_room_1, f_accAdd_1, f_accLow_1, f_accHigh_1, a_left_1, a_right_1, a_up_1, a_count_1, a_kind_1, a_amount_1, a_isVoid_1, a_turnBelow_1, a_voidBelow_1, a_live_1, a_netAll_1, a_netLive_1, a_add_1, a_low_1, a_high_1, a_spare_1, a_copyKind_1, a_copyAmount_1, a_copyVoid_1⟩ := u'
  have ec1 := (ls_X_ent hX').2.1
  have hcI : f_cap_1.toInt = (cap : Int) := by rw [ec1]; exact nI_toInt (by omega)
  have hp1 : ls_Ee (f_accAdd_1, f_accLow_1, f_accHigh_1) (ls_pw cap (ls_ef cap (ls_lv M)) (2 ^ 0)) := by
    have : ls_pw cap (ls_ef cap (ls_lv M)) (2 ^ 0) = ls_ef cap (ls_lv M) := ls_id_th hc (ls_oks_lv oM)
    rw [this]; exact hE
  have loop := ls_r73 (post := post) hc hx hT hv
    (fun r t1 t2 t3 hr => K1 f t x T (f_spares_1, f_root_1, f_entries_1, f_cap_1, f_room_1, t1, t2, t3, a_left_1, a_right_1, a_up_1, a_count_1, a_kind_1, a_amount_1, a_isVoid_1, a_turnBelow_1, a_voidBelow_1, a_live_1, a_netAll_1, a_netLive_1, a_add_1, a_low_1, a_high_1, a_spare_1, a_copyKind_1, a_copyAmount_1, a_copyVoid_1) M E1 E2 r ⟨g, e0, e1, hft, ht, ⟨h, h'⟩, e2, hx⟩ mc3 e3 hT (ls_X_acX hX') hL (by rw [hr]; exact ls_pw_it hv (by omega) (by omega) T))
    9 0 f_accAdd_1 f_accLow_1 f_accHigh_1 0 0 f_cap_1 (by omega) (by omega) (by rw [Nat.pow_zero, Nat.mod_one]; exact ⟨Int32.toInt_zero, Int32.toInt_zero, hcI⟩) hp1
  rw [e2, e3]
  exact ⟨9, loop⟩
end
section
/-! the reference: questions -/
def ls_yB (k m d : Nat → Int32) (i : Nat) (L : List ls_It) : Prop := ∀ j z, L[j]? = some z → k (i + j) = z.2.1 ∧ m (i + j) = z.2.2.1 ∧ d (i + j) = ls_b z.2.2.2
def ls_Y (cap room : Nat) (es : List ls_It) (v : SY) : Prop := match v with
  | (f_cap, f_room, f_size, a_kind, a_amount, a_dead, a_source, a_oldKind, a_oldAmount, a_oldDead) => f_cap = nI cap ∧ f_room = nI room ∧ f_size = nI es.length ∧ ls_yB a_kind a_amount a_dead 0 es
theorem ls_yB_c {k m d : Nat → Int32} {i : Nat} {z : ls_It} {L : List ls_It} (h : ls_yB k m d i (z :: L)) : k i = z.2.1 ∧ m i = z.2.2.1 ∧ d i = ls_b z.2.2.2 ∧ ls_yB k m d (i + 1) L := by
  obtain ⟨h1, h2, h3⟩ := h 0 z rfl
  refine ⟨h1, h2, h3, fun j w hw => ?_⟩
  have := h (j + 1) w hw
  rw [show i + (j + 1) = i + 1 + j by omega] at this
  exact this
theorem ls_yB_M {k m d : Nat → Int32} {f : Nat} {es M E1 E2 : List ls_It} (h : ls_yB k m d 0 es) (he : es = E1 ++ (M ++ E2)) (hf : E1.length = f) : ls_yB k m d f M := by
  intro j z hz
  have hj : j < M.length := by
    rcases Nat.lt_or_ge j M.length with q | q
    · exact q
    · rw [List.getElem?_eq_none q] at hz; cases hz
  have := h (f + j) z (by
    rw [he, List.getElem?_append_right (by omega), List.getElem?_append_left (by omega)]
    rw [show f + j - E1.length = j by omega]; exact hz)
  rw [Nat.zero_add] at this
  exact this
section
variable {f_cap f_room f_size : Int32} {a_kind a_amount a_dead a_source a_oldKind a_oldAmount a_oldDead : Nat → Int32}
theorem ls_badY {n : Nat} {p0 p1 : Int32} {post : Int32 → Prop} (hn : f_size = nI n) (K1 : ls_gd n p0 p1 → post 0) (K0 : ¬ ls_gd n p0 p1 → post 1) : wpY_bad post (f_cap, f_room, f_size, a_kind, a_amount, a_dead, a_source, a_oldKind, a_oldAmount, a_oldDead) p0 p1 := by
  subst hn
  unfold wpY_bad
  exact br_c (fun h => K0 fun g => g.1 h) (fun h => br_c (fun h' => K0 fun g => g.2.1 h') (fun h' => br_c (fun h'' => K1 ⟨h, h', Int32.not_lt.mpr h''⟩) (fun h'' => K0 fun g => h'' (Int32.not_lt.mp g.2.2))))
theorem ls_y16 {post : Int32 → Prop} {t : Nat} (ht : t ≤ 40) : ∀ (L : List ls_It) (n i c : Nat), L.length < n → i + L.length = t → ls_yB a_kind a_amount a_dead i L → post (nI (c + (ls_lv L).length)) → wY_liveCount_16 post (nI t) f_cap f_room f_size a_kind a_amount a_dead a_source a_oldKind a_oldAmount a_oldDead n (nI c) (nI i)
  | [], n + 1, i, c, _, hi, _, hp => by
    rw [List.length_nil] at hi
    exact br_t (nI_le (by omega) (by omega)) hp
  | z :: L, n + 1, i, c, hn, hi, hB, hp => by
    rw [List.length_cons] at hi hn
    obtain ⟨b1, b2, b3, b4⟩ := ls_yB_c hB
    have ci := ls_cln (n := i) (by omega)
    refine br_f (nI_ge (by omega) (by omega)) (br_f (nI_ge (b := 40) (by omega) (by omega)) ⟨vp_in_nI (by omega) (by omega), br_c (fun h => ?_) (fun h => ?_)⟩)
    · rw [ci, b3, ls_b_eq0] at h
      rw [ls_lv_f h, List.length_cons] at hp
      refine nm_r (e' := nI (c + 1)) (nI_1 c) (nm_r (e' := nI (i + 1)) (nI_1 i) (ls_y16 ht L n (i + 1) (c + 1) (by omega) (by omega) b4 ?_))
      rw [show c + 1 + (ls_lv L).length = c + ((ls_lv L).length + 1) by omega]; exact hp
    · rw [ci, b3, ls_b_eq0] at h
      rw [ls_lv_t ((Bool.not_eq_false _).mp h)] at hp
      exact nm_r (e' := nI (i + 1)) (nI_1 i) (ls_y16 ht L n (i + 1) c (by omega) (by omega) b4 hp)
theorem ls_y17 {post : Int32 → Prop} {cap t : Nat} (hc : cap ≤ 60) (ht : t ≤ 40) : ∀ (L : List ls_It) (n i : Nat) (c : Int32) (s : Int), L.length < n → i + L.length = t → ls_yB a_kind a_amount a_dead i L → ls_oks cap L → c.toInt = s → -(60 * (i : Int)) ≤ s → s ≤ 60 * (i : Int) →
      (∀ r : Int32, r.toInt = s + ls_nA (ls_lv L) → post r) → wY_net_17 post (nI t) f_cap f_room f_size a_kind a_amount a_dead a_source a_oldKind a_oldAmount a_oldDead n c (nI i)
  | [], n + 1, i, c, s, _, hi, _, _, hs, _, _, hp => by
    rw [List.length_nil] at hi
    refine br_t (nI_le (by omega) (by omega)) (hp c ?_)
    show c.toInt = s + 0
    omega
  | z :: L, n + 1, i, c, s, hn, hi, hB, oL, hs, s1, s2, hp => by
    rw [List.length_cons] at hi hn
    obtain ⟨b1, b2, b3, b4⟩ := ls_yB_c hB
    have ci := ls_cln (n := i) (by omega)
    have hin : vp_in (nI i) 40 := vp_in_nI (by omega) (by omega)
    have oz := ls_own_v hc (ls_oks_c oL).1
    refine br_f (nI_ge (by omega) (by omega)) (br_f (nI_ge (b := 40) (by omega) (by omega)) ⟨hin, br_c (fun h => ⟨hin, br_c (fun h' => ⟨hin, ?_⟩) (fun h' => ?_)⟩) (fun h => ?_)⟩)
    · rw [ci, b3, ls_b_eq0] at h
      rw [ci, b1] at h'
      have ow : ls_own z = z.2.2.1.toInt := by unfold ls_own; rw [if_pos h']
      rw [ls_lv_f h] at hp
      have sm : (c + z.2.2.1).toInt = s + ls_own z := by rw [Jvm.Kit.i32_add] <;> omega
      refine nm_r (e' := c + z.2.2.1) (by rw [ci, b2]) (nm_r (e' := nI (i + 1)) (nI_1 i) (ls_y17 hc ht L n (i + 1) _ (s + ls_own z) (by omega) (by omega) b4 (ls_oks_c oL).2 sm (by omega) (by omega) fun r hr => hp r ?_))
      show r.toInt = s + (ls_own z + ls_nA (ls_lv L))
      omega
    · rw [ci, b3, ls_b_eq0] at h
      rw [ci, b1] at h'
      have ow : ls_own z = 0 := by unfold ls_own; rw [if_neg h']
      rw [ls_lv_f h] at hp
      refine nm_r (e' := nI (i + 1)) (nI_1 i) (ls_y17 hc ht L n (i + 1) c s (by omega) (by omega) b4 (ls_oks_c oL).2 hs (by omega) (by omega) fun r hr => hp r ?_)
      show r.toInt = s + (ls_own z + ls_nA (ls_lv L))
      omega
    · rw [ci, b3, ls_b_eq0] at h
      rw [ls_lv_t ((Bool.not_eq_false _).mp h)] at hp
      exact nm_r (e' := nI (i + 1)) (nI_1 i) (ls_y17 hc ht L n (i + 1) c s (by omega) (by omega) b4 (ls_oks_c oL).2 hs (by omega) (by omega) hp)
theorem ls_yap {post : Int32 → Prop} {cap i : Nat} {z : ls_It} {p1 : Int32} {x : Int} (hc : cap ≤ 60) (hcap : f_cap = nI cap) (hi : i < 40) (b1 : a_kind i = z.2.1) (b2 : a_amount i = z.2.2.1) (b3 : a_dead i = ls_b z.2.2.2) (oz : ls_ok cap z)
    (hx : p1.toInt = x) (x0 : 0 ≤ x) (x1 : x ≤ (cap : Int)) (K : ∀ r : Int32, r.toInt = ls_apI cap z x → post r) : wpY_applied post (f_cap, f_room, f_size, a_kind, a_amount, a_dead, a_source, a_oldKind, a_oldAmount, a_oldDead) (nI i) p1 := by
  have ci := ls_cln (n := i) (by omega)
  have hin : vp_in (nI i) 40 := vp_in_nI hi (by omega)
  have hcI : f_cap.toInt = (cap : Int) := by rw [hcap]; exact nI_toInt (by omega)
  unfold wpY_applied
  refine ⟨hin, br_c (fun h => K _ ?_) (fun h => ⟨hin, nm_r (e' := z.2.2.1) (by rw [ci, b2]) ⟨hin, br_c (fun k0 => ?_) (fun k0 => ⟨hin, br_c (fun k1 => ?_) (fun k1 => ⟨hin, br_c (fun k2 => ?_) (fun k2 => ?_)⟩)⟩)⟩⟩)⟩
  · rw [ci, b3] at h
    have hv : z.2.2.2 = true := by
      cases q : z.2.2.2
      · rw [q] at h; exact absurd h (by decide)
      · rfl
    unfold ls_apI; rw [hv, if_pos rfl]; exact hx
  all_goals
    have hv : z.2.2.2 = false := by
      cases q : z.2.2.2
      · rfl
      · rw [ci, b3, q] at h; exact absurd rfl h
    have eap : ls_apI cap z x = ls_app (ls_en cap z) x := by unfold ls_apI; rw [hv, if_neg (by decide)]
    rw [ci, b1] at k0
  · have een : ls_en cap z = (z.2.2.1.toInt, 0, (cap : Int)) := by unfold ls_en; rw [if_pos k0]
    have bz : -(cap : Int) ≤ z.2.2.1.toInt ∧ z.2.2.1.toInt ≤ (cap : Int) := by rcases oz with q | q <;> omega
    have sm : (p1 + z.2.2.1).toInt = x + z.2.2.1.toInt := by rw [Jvm.Kit.i32_add] <;> omega
    have val : ls_apI cap z x = max 0 (min (x + z.2.2.1.toInt) (cap : Int)) := by rw [eap, een]; rfl
    refine nm_r (e' := p1 + z.2.2.1) rfl (br_c (fun q => br_c (fun q' => K _ ?_) (fun q' => K _ ?_)) (fun q => K _ ?_))
    · rw [Int32.le_iff_toInt_le, sm, Int32.toInt_zero] at q
      rw [Int32.le_iff_toInt_le, sm, hcI] at q'
      omega
    · rw [Int32.le_iff_toInt_le, sm, Int32.toInt_zero] at q
      rw [Int32.le_iff_toInt_le, sm, hcI] at q'
      omega
    · rw [Int32.le_iff_toInt_le, sm, Int32.toInt_zero] at q
      rw [Int32.toInt_zero]; omega
  · rw [ci, b1] at k1
    have een : ls_en cap z = (0, z.2.2.1.toInt, (cap : Int)) := by unfold ls_en; rw [if_neg k0, if_pos k1]
    have bz : 0 ≤ z.2.2.1.toInt ∧ z.2.2.1.toInt ≤ (cap : Int) := by
      rcases oz with q | q
      · exact absurd q.1 k0
      · exact q.2
    have val : ls_apI cap z x = max z.2.2.1.toInt (min (x + 0) (cap : Int)) := by rw [eap, een]; rfl
    refine br_c (fun q => K _ ?_) (fun q => K _ ?_)
    · rw [Int32.le_iff_toInt_le, hx] at q; omega
    · rw [Int32.le_iff_toInt_le, hx] at q; omega
  · rw [ci, b1] at k1 k2
    have een : ls_en cap z = (0, 0, z.2.2.1.toInt) := by unfold ls_en; rw [if_neg k0, if_neg k1, if_pos k2]
    have bz : 0 ≤ z.2.2.1.toInt ∧ z.2.2.1.toInt ≤ (cap : Int) := by
      rcases oz with q | q
      · exact absurd q.1 k0
      · exact q.2
    have val : ls_apI cap z x = max 0 (min (x + 0) z.2.2.1.toInt) := by rw [eap, een]; rfl
    refine br_c (fun q => K _ ?_) (fun q => K _ ?_)
    · rw [Int32.le_iff_toInt_le, hx] at q; omega
    · rw [Int32.le_iff_toInt_le, hx] at q; omega
  · rw [ci, b1] at k1 k2
    have een : ls_en cap z = (0, z.2.2.1.toInt, z.2.2.1.toInt) := by unfold ls_en; rw [if_neg k0, if_neg k1, if_neg k2]
    have val : ls_apI cap z x = max z.2.2.1.toInt (min (x + 0) z.2.2.1.toInt) := by rw [eap, een]; rfl
    refine K _ ?_
    omega
theorem ls_apI_in {cap : Nat} {z : ls_It} {x : Int} (hc : cap ≤ 60) (oz : ls_ok cap z) (x0 : 0 ≤ x) (x1 : x ≤ (cap : Int)) : 0 ≤ ls_apI cap z x ∧ ls_apI cap z x ≤ (cap : Int) := by
  unfold ls_apI
  by_cases h : z.2.2.2 = true
  · rw [if_pos h]; exact ⟨x0, x1⟩
  · rw [if_neg h]; exact ls_app_in (ls_en_v hc oz)
theorem ls_y6 {post : Int32 → Prop} {cap t : Nat} (hc : cap ≤ 60) (hcap : f_cap = nI cap) (ht : t ≤ 40) : ∀ (L : List ls_It) (n i : Nat) (x4 : Int32) (x : Int), L.length < n → i + L.length = t → ls_yB a_kind a_amount a_dead i L → ls_oks cap L → x4.toInt = x → 0 ≤ x → x ≤ (cap : Int) →
      (∀ r : Int32, r.toInt = ls_rp cap L x → post r) → wY_replay_6 post (nI t) f_cap f_room f_size a_kind a_amount a_dead a_source a_oldKind a_oldAmount a_oldDead n x4 (nI i)
  | [], n + 1, i, x4, x, _, hi, _, _, hx, _, _, hp => by
    rw [List.length_nil] at hi
    exact br_t (nI_le (by omega) (by omega)) (hp x4 hx)
  | z :: L, n + 1, i, x4, x, hn, hi, hB, oL, hx, x0, x1, hp => by
    rw [List.length_cons] at hi hn
    obtain ⟨b1, b2, b3, b4⟩ := ls_yB_c hB
    have oz := (ls_oks_c oL).1
    have xin := ls_apI_in hc oz x0 x1
    refine br_f (nI_ge (by omega) (by omega)) (br_f (nI_ge (b := 40) (by omega) (by omega)) (ls_yap hc hcap (by omega) b1 b2 b3 oz hx x0 x1 fun r hr => nm_r (e' := nI (i + 1)) (nI_1 i) ?_))
    exact ls_y6 hc hcap ht L n (i + 1) r _ (by omega) (by omega) b4 (ls_oks_c oL).2 hr xin.1 xin.2 hp
theorem ls_yreplay {post : Int32 → Prop} {cap f t : Nat} {M : List ls_It} {p2 : Int32} {x : Int} (hc : cap ≤ 60) (hcap : f_cap = nI cap) (ht : t ≤ 40) (hM : f + M.length = t) (hB : ls_yB a_kind a_amount a_dead f M) (oM : ls_oks cap M)
    (hx : p2.toInt = x) (x0 : 0 ≤ x) (x1 : x ≤ (cap : Int)) (K : ∀ r : Int32, r.toInt = ls_app (ls_ef cap (ls_lv M)) x → post r) : wpY_replay post (f_cap, f_room, f_size, a_kind, a_amount, a_dead, a_source, a_oldKind, a_oldAmount, a_oldDead) (nI f) (nI t) p2 := by
  unfold wpY_replay
  exact ⟨M.length + 1, ls_y6 hc hcap ht M (M.length + 1) f p2 x (by omega) hM hB oM hx x0 x1 fun r hr => K r (by rw [hr]; exact ls_rp_ef hc oM x0 x1)⟩
end
end
section
/-! the reference's loops over a replay -/
section
variable {f_cap f_room f_size : Int32} {a_kind a_amount a_dead a_source a_oldKind a_oldAmount a_oldDead : Nat → Int32}
variable {cap f t : Nat} {M : List ls_It}
theorem ls_y48 {post : Int32 → Prop} {T : Nat} {x : Int} (hc : cap ≤ 60) (hcap : f_cap = nI cap) (ht : t ≤ 40) (hM : f + M.length = t) (hB : ls_yB a_kind a_amount a_dead f M) (oM : ls_oks cap M) (hv : ls_vE cap 40 (ls_ef cap (ls_lv M))) (hT : T ≤ 200) (x0 : 0 ≤ x) (x1 : x ≤ (cap : Int))
    (K : ∀ r : Int32, r.toInt = ls_it (ls_app (ls_ef cap (ls_lv M))) T x → post r) :
    ∀ (n i : Nat) (x5 : Int32), T - i < n → i ≤ T → x5.toInt = ls_it (ls_app (ls_ef cap (ls_lv M))) i x → wY_repeat_48 post (nI f) (nI t) (nI T) f_cap f_room f_size a_kind a_amount a_dead a_source a_oldKind a_oldAmount a_oldDead n x5 (nI i) := by
  intro n
  induction n with
  | zero => intro i x5 h; omega
  | succ n ih =>
    intro i x5 hn hi h5
    have xin := ls_it_in hv x0 x1 i
    by_cases e : i = T
    · subst e
      exact br_t (nI_le (by omega) (by omega)) (K x5 h5)
    · refine br_f (nI_ge (by omega) (by omega)) (ls_yreplay hc hcap ht hM hB oM h5 xin.1 xin.2 fun r hr => nm_r (e' := nI (i + 1)) (nI_1 i) (ih (i + 1) r (by omega) (by omega) hr))
theorem ls_y32 {post : Int32 → Prop} {x : Int} (hc : cap ≤ 60) (hcap : f_cap = nI cap) (ht : t ≤ 40) (hM : f + M.length = t) (hB : ls_yB a_kind a_amount a_dead f M) (oM : ls_oks cap M) (hv : ls_vE cap 40 (ls_ef cap (ls_lv M))) (x0 : 0 ≤ x) (x1 : x ≤ (cap : Int))
    (K : ∀ r : Int32, r.toInt = ls_it (ls_app (ls_ef cap (ls_lv M))) (cap + 1) x → post r) :
    ∀ (n i : Nat) (x5 : Int32), cap + 1 - i < n → i ≤ cap + 1 → x5.toInt = ls_it (ls_app (ls_ef cap (ls_lv M))) i x → wY_rest_32 post (nI f) (nI t) f_cap f_room f_size a_kind a_amount a_dead a_source a_oldKind a_oldAmount a_oldDead n x5 (nI i) := by
  intro n
  have hc1 : f_cap + 1 = nI (cap + 1) := by rw [hcap, nI_1]
  induction n with
  | zero => intro i x5 h; omega
  | succ n ih =>
    intro i x5 hn hi h5
    have xin := ls_it_in hv x0 x1 i
    by_cases e : i = cap + 1
    · subst e
      exact br_t (by rw [hc1]; exact nI_le (by omega) (by omega)) (K x5 h5)
    · refine br_f (by rw [hc1]; exact nI_ge (by omega) (by omega)) (ls_yreplay hc hcap ht hM hB oM h5 xin.1 xin.2 fun r hr => nm_r (e' := nI (i + 1)) (nI_1 i) (ih (i + 1) r (by omega) (by omega) hr))
theorem ls_y29 {post : Int32 → Prop} {j : Nat} {p2 : Int32} {y : Int} (hc : cap ≤ 60) (hcap : f_cap = nI cap) (ht : t ≤ 40) (hM : f + M.length = t) (hB : ls_yB a_kind a_amount a_dead f M) (oM : ls_oks cap M) (hy : p2.toInt = y)
    (j1 : j ≤ cap + 1) (j2 : ∀ i : Nat, i < j → ls_app (ls_ef cap (ls_lv M)) (i : Int) < y) (j3 : j ≤ cap → y ≤ ls_app (ls_ef cap (ls_lv M)) (j : Int))
    (K : post (if j ≤ cap then nI j else -3)) :
    ∀ (n i : Nat), j - i < n → i ≤ j → wY_leastOpening_29 post (nI f) (nI t) p2 f_cap f_room f_size a_kind a_amount a_dead a_source a_oldKind a_oldAmount a_oldDead n (nI i) := by
  intro n
  induction n with
  | zero => intro i h; omega
  | succ n ih =>
    intro i hn hi
    by_cases e : cap < i
    · have : j = cap + 1 := by omega
      rw [if_neg (by omega)] at K
      exact br_t (by rw [hcap]; exact nI_lt e (by omega)) K
    · have hiI : (nI i).toInt = (i : Int) := nI_toInt (by omega)
      refine br_f (by rw [hcap]; exact nI_nlt (by omega) (by omega)) (ls_yreplay hc hcap ht hM hB oM hiI (by omega) (by omega) fun r hr => br_c (fun q => ?_) (fun q => ?_))
      · rw [Int32.lt_iff_toInt_lt, hr, hy] at q
        have : i ≠ j := fun w => by
          have := j3 (by omega)
          rw [← w] at this; omega
        exact nm_r (e' := nI (i + 1)) (nI_1 i) (ih (i + 1) (by omega) (by omega))
      · rw [Int32.lt_iff_toInt_lt, hr, hy] at q
        have : i = j := by
          rcases Nat.lt_or_ge i j with w | w
          · exact absurd (j2 i w) q
          · omega
        rw [← this, if_pos (by omega)] at K
        exact K
theorem ls_y32o {post : Int32 → Prop} {p2 : Int32} {y : Int} (hc : cap ≤ 60) (hcap : f_cap = nI cap) (ht : t ≤ 40) (hM : f + M.length = t) (hB : ls_yB a_kind a_amount a_dead f M) (oM : ls_oks cap M) (hy : p2.toInt = y)
    (K : post (nI (ls_cn (ls_app (ls_ef cap (ls_lv M))) y (cap + 1)))) :
    ∀ (n i : Nat), cap + 1 - i < n → i ≤ cap + 1 → wY_openings_32 post (nI f) (nI t) p2 f_cap f_room f_size a_kind a_amount a_dead a_source a_oldKind a_oldAmount a_oldDead n (nI (ls_cn (ls_app (ls_ef cap (ls_lv M))) y i)) (nI i) := by
  intro n
  induction n with
  | zero => intro i h; omega
  | succ n ih =>
    intro i hn hi
    by_cases e : cap < i
    · have : i = cap + 1 := by omega
      rw [this]
      exact br_t (by rw [hcap]; exact nI_lt (by omega) (by omega)) K
    · have hiI : (nI i).toInt = (i : Int) := nI_toInt (by omega)
      refine br_f (by rw [hcap]; exact nI_nlt (by omega) (by omega)) (ls_yreplay hc hcap ht hM hB oM hiI (by omega) (by omega) fun r hr => br_c (fun q => ?_) (fun q => ?_))
      · have : ls_cn (ls_app (ls_ef cap (ls_lv M))) y (i + 1) = ls_cn (ls_app (ls_ef cap (ls_lv M))) y i + 1 := by
          show _ + (if ls_app (ls_ef cap (ls_lv M)) (i : Int) = y then 1 else 0) = _
          rw [if_pos (by rw [← hr, ← hy, q])]
        refine nm_r (e' := nI (ls_cn (ls_app (ls_ef cap (ls_lv M))) y (i + 1))) (by rw [this, nI_1]) (nm_r (e' := nI (i + 1)) (nI_1 i) (ih (i + 1) (by omega) (by omega)))
      · have : ls_cn (ls_app (ls_ef cap (ls_lv M))) y (i + 1) = ls_cn (ls_app (ls_ef cap (ls_lv M))) y i := by
          show _ + (if ls_app (ls_ef cap (ls_lv M)) (i : Int) = y then 1 else 0) = _
          rw [if_neg (fun w => q (Int32.toInt_inj.mp (by rw [hr, hy, w])))]
          omega
        have k := ih (i + 1) (by omega) (by omega)
        rw [this] at k
        exact nm_r (e' := nI (i + 1)) (nI_1 i) k
end
/-! the relation -/
def i_Rel (k : Nat) (u : SX) (v : SY) : Prop := ∃ cap room es, ls_X cap room es u ∧ ls_Y cap room es v
theorem i_up {k : Nat} {u : SX} {v : SY} (h : i_Rel k u v) : i_Rel (k + 5) u v := h
theorem i_vc_cap {k : Nat} {u : SX} {v : SY} (I : i_Rel k u v) (hk : k + 5 ≤ 2562) : wpX_cap (fun r => wpY_cap (fun r' => r' = r ∧ i_Rel (k + 5) u v) v) u := by
  obtain ⟨cap, room, es, hX, hY⟩ := I
  have J : i_Rel (k + 5) u v := ⟨cap, room, es, hX, hY⟩
  obtain ⟨f_spares, f_root, f_entries, f_cap, f_room, f_accAdd, f_accLow, f_accHigh, a_left, a_right, a_up, a_count, a_kind, a_amount, a_isVoid, a_turnBelow, a_voidBelow, a_live, a_netAll, a_netLive, a_add, a_low, a_high, a_spare, a_copyKind, a_copyAmount, a_copyVoid⟩ := u
  obtain ⟨f_cap_y, f_room_y, f_size_y, a_kind_y, a_amount_y, a_dead_y, a_source_y, a_oldKind_y, a_oldAmount_y, a_oldDead_y⟩ := v
  exact ⟨hY.1.trans (ls_X_ent hX).2.1.symm, J⟩
theorem i_vc_size {k : Nat} {u : SX} {v : SY} (I : i_Rel k u v) (hk : k + 5 ≤ 2562) : wpX_size (fun r => wpY_size (fun r' => r' = r ∧ i_Rel (k + 5) u v) v) u := by
  obtain ⟨cap, room, es, hX, hY⟩ := I
  have J : i_Rel (k + 5) u v := ⟨cap, room, es, hX, hY⟩
  obtain ⟨f_spares, f_root, f_entries, f_cap, f_room, f_accAdd, f_accLow, f_accHigh, a_left, a_right, a_up, a_count, a_kind, a_amount, a_isVoid, a_turnBelow, a_voidBelow, a_live, a_netAll, a_netLive, a_add, a_low, a_high, a_spare, a_copyKind, a_copyAmount, a_copyVoid⟩ := u
  obtain ⟨f_cap_y, f_room_y, f_size_y, a_kind_y, a_amount_y, a_dead_y, a_source_y, a_oldKind_y, a_oldAmount_y, a_oldDead_y⟩ := v
  exact ⟨hY.2.2.1.trans (ls_X_ent hX).1.symm, J⟩
theorem i_vc_liveCount {k : Nat} {u : SX} {v : SY} (I : i_Rel k u v) (hk : k + 5 ≤ 2562) (v1 : Int32) (v2 : Int32) : wpX_liveCount (fun r u' => wpY_liveCount (fun r' => r' = r ∧ i_Rel (k + 5) u' v) v v1 v2) u v1 v2 := by
  obtain ⟨cap, room, es, hX, hY⟩ := I
  have hl := hX.2.2.2.1
  have hr := hX.2.2.1
  refine ls_X_liveCount hX (fun g => ?_) (fun f t u' M E1 E2 r g e0 e1 hft ht hX' h1 h2 h3 hrr => ?_)
  · have J : i_Rel (k + 5) u v := ⟨cap, room, es, hX, hY⟩
    obtain ⟨f_cap, f_room, f_size, a_kind, a_amount, a_dead, a_source, a_oldKind, a_oldAmount, a_oldDead⟩ := v
    unfold wpY_liveCount
    exact ls_badY hY.2.2.1 (fun g' => absurd g' g) (fun _ => br_f (by decide) ⟨rfl, J⟩)
  · have J : i_Rel (k + 5) u' v := ⟨cap, room, es, hX', hY⟩
    obtain ⟨f_cap, f_room, f_size, a_kind, a_amount, a_dead, a_source, a_oldKind, a_oldAmount, a_oldDead⟩ := v
    unfold wpY_liveCount
    refine ls_badY hY.2.2.1 (fun _ => br_t rfl ⟨M.length + 1, ?_⟩) (fun g' => absurd g g')
    rw [e0, e1]
    exact ls_y16 (t := t) (by omega) M (M.length + 1) f 0 (by omega) (by omega) (ls_yB_M hY.2.2.2 h1 h2) ⟨by rw [Nat.zero_add, hrr], J⟩
theorem i_vc_net {k : Nat} {u : SX} {v : SY} (I : i_Rel k u v) (hk : k + 5 ≤ 2562) (v1 : Int32) (v2 : Int32) : wpX_net (fun r u' => wpY_net (fun r' => r' = r ∧ i_Rel (k + 5) u' v) v v1 v2) u v1 v2 := by
  obtain ⟨cap, room, es, hX, hY⟩ := I
  have hl := hX.2.2.2.1
  have hr := hX.2.2.1
  have hc := hX.2.2.2.2.1.1
  refine ls_X_net hX (fun g => ?_) (fun f t u' M E1 E2 r g e0 e1 hft ht hX' h1 h2 h3 hrr => ?_)
  · have J : i_Rel (k + 5) u v := ⟨cap, room, es, hX, hY⟩
    obtain ⟨f_cap, f_room, f_size, a_kind, a_amount, a_dead, a_source, a_oldKind, a_oldAmount, a_oldDead⟩ := v
    unfold wpY_net
    exact ls_badY hY.2.2.1 (fun g' => absurd g' g) (fun _ => br_f (by decide) ⟨rfl, J⟩)
  · have J : i_Rel (k + 5) u' v := ⟨cap, room, es, hX', hY⟩
    have oM : ls_oks cap M := by
      have := ls_X_oks hX
      rw [h1] at this
      exact (ls_oks_app.mp (ls_oks_app.mp this).2).1
    obtain ⟨f_cap, f_room, f_size, a_kind, a_amount, a_dead, a_source, a_oldKind, a_oldAmount, a_oldDead⟩ := v
    unfold wpY_net
    refine ls_badY hY.2.2.1 (fun _ => br_t rfl ⟨M.length + 1, ?_⟩) (fun g' => absurd g g')
    rw [e0, e1]
    exact ls_y17 hc (t := t) (by omega) M (M.length + 1) f 0 0 (by omega) (by omega) (ls_yB_M hY.2.2.2 h1 h2) oM Int32.toInt_zero (by omega) (by omega) fun r' hr' => ⟨Int32.toInt_inj.mp (by rw [hr', hrr]; omega), J⟩
end
section
theorem ls_mcY {m : Nat} {p : Int32} {A B C : Prop} (hA : ¬ ls_mc m p → A) (hB : ls_mc m p → B) (hC : ¬ ls_mc m p → C) : ((p < 0 → A) ∧ (¬ p < 0 → (((p ≤ nI m → B) ∧ (¬ p ≤ nI m → C))))) :=
  br_c (fun h => hA fun z => z.1 h) (fun h => br_c (fun h' => hB ⟨h, h'⟩) (fun h' => hC fun z => h' z.2))
theorem ls_gpY {n : Nat} {p : Int32} (hn : n ≤ 40) {A B C D : Prop} (hA : ¬ ls_gp n p → A) (hB : ¬ ls_gp n p → B) (hC : ls_gp n p → p < 40 → C) : ((p < 0 → A) ∧ (¬ p < 0 → (((nI n ≤ p → B) ∧ (¬ nI n ≤ p → (((p < 40 → C) ∧ (¬ p < 40 → D)))))))) := by
  refine br_c (fun h => hA fun z => z.1 h) (fun h => br_c (fun h' => hB fun z => absurd z.2 (Int32.not_lt.mpr h')) (fun h' => ?_))
  have g : ls_gp n p := ⟨h, Int32.not_le.mp h'⟩
  obtain ⟨f, e, hf⟩ := ls_gp_nat (by omega) g
  have h40 : p < 40 := by rw [e]; exact nI_lt (b := 40) (by omega) (by omega)
  exact br_t h40 (hC g h40)
theorem i_vc_kindAt {k : Nat} {u : SX} {v : SY} (I : i_Rel k u v) (hk : k + 5 ≤ 2562) (v1 : Int32) : wpX_kindAt (fun r u' => wpY_kindAt (fun r' => r' = r ∧ i_Rel (k + 5) u' v) v v1) u v1 := by
  obtain ⟨cap, room, es, hX, hY⟩ := I
  have hl := hX.2.2.2.1
  have hr := hX.2.2.1
  refine ls_X_kindAt hX (fun g => ?_) (fun f u' z g e0 hf hX' hz => ?_)
  · have J : i_Rel (k + 5) u v := ⟨cap, room, es, hX, hY⟩
    obtain ⟨f_cap, f_room, f_size, a_kind, a_amount, a_dead, a_source, a_oldKind, a_oldAmount, a_oldDead⟩ := v
    obtain ⟨y1, y2, y3, y4⟩ := hY
    subst y3
    unfold wpY_kindAt
    exact ls_gpY (by omega) (fun _ => ⟨rfl, J⟩) (fun _ => ⟨rfl, J⟩) (fun g' => absurd g' g)
  · have J : i_Rel (k + 5) u' v := ⟨cap, room, es, hX', hY⟩
    obtain ⟨f_cap, f_room, f_size, a_kind, a_amount, a_dead, a_source, a_oldKind, a_oldAmount, a_oldDead⟩ := v
    obtain ⟨y1, y2, y3, y4⟩ := hY
    subst y3
    have y5 := y4 f z hz
    rw [Nat.zero_add] at y5
    unfold wpY_kindAt
    refine ls_gpY (by omega) (fun g' => absurd g g') (fun g' => absurd g g') (fun _ _ => ⟨?_, ?_, J⟩)
    · rw [e0]; exact vp_in_nI (by omega) (by omega)
    · rw [e0, ls_cln (by omega)]; exact y5.1
theorem i_vc_amountAt {k : Nat} {u : SX} {v : SY} (I : i_Rel k u v) (hk : k + 5 ≤ 2562) (v1 : Int32) : wpX_amountAt (fun r u' => wpY_amountAt (fun r' => r' = r ∧ i_Rel (k + 5) u' v) v v1) u v1 := by
  obtain ⟨cap, room, es, hX, hY⟩ := I
  have hl := hX.2.2.2.1
  have hr := hX.2.2.1
  refine ls_X_amountAt hX (fun g => ?_) (fun f u' z g e0 hf hX' hz => ?_)
  · have J : i_Rel (k + 5) u v := ⟨cap, room, es, hX, hY⟩
    obtain ⟨f_cap, f_room, f_size, a_kind, a_amount, a_dead, a_source, a_oldKind, a_oldAmount, a_oldDead⟩ := v
    obtain ⟨y1, y2, y3, y4⟩ := hY
    subst y3
    unfold wpY_amountAt
    exact ls_gpY (by omega) (fun _ => ⟨rfl, J⟩) (fun _ => ⟨rfl, J⟩) (fun g' => absurd g' g)
  · have J : i_Rel (k + 5) u' v := ⟨cap, room, es, hX', hY⟩
    obtain ⟨f_cap, f_room, f_size, a_kind, a_amount, a_dead, a_source, a_oldKind, a_oldAmount, a_oldDead⟩ := v
    obtain ⟨y1, y2, y3, y4⟩ := hY
    subst y3
    have y5 := y4 f z hz
    rw [Nat.zero_add] at y5
    unfold wpY_amountAt
    refine ls_gpY (by omega) (fun g' => absurd g g') (fun g' => absurd g g') (fun _ _ => ⟨?_, ?_, J⟩)
    · rw [e0]; exact vp_in_nI (by omega) (by omega)
    · rw [e0, ls_cln (by omega)]; exact y5.2.1
theorem i_vc_voidAt {k : Nat} {u : SX} {v : SY} (I : i_Rel k u v) (hk : k + 5 ≤ 2562) (v1 : Int32) : wpX_voidAt (fun r u' => wpY_voidAt (fun r' => r' = r ∧ i_Rel (k + 5) u' v) v v1) u v1 := by
  obtain ⟨cap, room, es, hX, hY⟩ := I
  have hl := hX.2.2.2.1
  have hr := hX.2.2.1
  refine ls_X_voidAt hX (fun g => ?_) (fun f u' z g e0 hf hX' hz => ?_)
  · have J : i_Rel (k + 5) u v := ⟨cap, room, es, hX, hY⟩
    obtain ⟨f_cap, f_room, f_size, a_kind, a_amount, a_dead, a_source, a_oldKind, a_oldAmount, a_oldDead⟩ := v
    obtain ⟨y1, y2, y3, y4⟩ := hY
    subst y3
    unfold wpY_voidAt
    exact ls_gpY (by omega) (fun _ => ⟨rfl, J⟩) (fun _ => ⟨rfl, J⟩) (fun g' => absurd g' g)
  · have J : i_Rel (k + 5) u' v := ⟨cap, room, es, hX', hY⟩
    obtain ⟨f_cap, f_room, f_size, a_kind, a_amount, a_dead, a_source, a_oldKind, a_oldAmount, a_oldDead⟩ := v
    obtain ⟨y1, y2, y3, y4⟩ := hY
    subst y3
    have y5 := y4 f z hz
    rw [Nat.zero_add] at y5
    unfold wpY_voidAt
    refine ls_gpY (by omega) (fun g' => absurd g g') (fun g' => absurd g g') (fun _ _ => ⟨?_, ?_, J⟩)
    · rw [e0]; exact vp_in_nI (by omega) (by omega)
    · rw [e0, ls_cln (by omega)]; exact y5.2.2
theorem i_vc_run {k : Nat} {u : SX} {v : SY} (I : i_Rel k u v) (hk : k + 5 ≤ 2562) (v1 : Int32) (v2 : Int32) (v3 : Int32) : wpX_run (fun r u' => wpY_run (fun r' => r' = r ∧ i_Rel (k + 5) u' v) v v1 v2 v3) u v1 v2 v3 := by
  obtain ⟨cap, room, es, hX, hY⟩ := I
  have hl := hX.2.2.2.1
  have hr := hX.2.2.1
  have hc := hX.2.2.2.2.1.1
  have J0 : i_Rel (k + 5) u v := ⟨cap, room, es, hX, hY⟩
  refine ls_X_run hX (fun g => ?_) (fun g m => ?_) (fun f t x u' M E1 E2 r hA hX' hL hrr => ?_)
  · obtain ⟨f_cap, f_room, f_size, a_kind, a_amount, a_dead, a_source, a_oldKind, a_oldAmount, a_oldDead⟩ := v
    unfold wpY_run
    exact ls_badY hY.2.2.1 (fun g' => absurd g' g) (fun _ => br_f (by decide) ⟨rfl, J0⟩)
  · obtain ⟨f_cap, f_room, f_size, a_kind, a_amount, a_dead, a_source, a_oldKind, a_oldAmount, a_oldDead⟩ := v
    obtain ⟨y1, y2, y3, y4⟩ := hY
    subst y1
    unfold wpY_run
    exact ls_badY y3 (fun _ => br_t rfl (ls_mcY (m := cap) (fun _ => ⟨rfl, J0⟩) (fun m' => absurd m' m) (fun _ => ⟨rfl, J0⟩))) (fun g' => absurd g g')
  · have J : i_Rel (k + 5) u' v := ⟨cap, room, es, hX', hY⟩
    obtain ⟨g, e0, e1, hft, ht, m, e2, hx⟩ := hA
    obtain ⟨h1, h2, h3, oM, hv⟩ := hL
    obtain ⟨f_cap, f_room, f_size, a_kind, a_amount, a_dead, a_source, a_oldKind, a_oldAmount, a_oldDead⟩ := v
    obtain ⟨y1, y2, y3, y4⟩ := hY
    subst y1
    unfold wpY_run
    refine ls_badY y3 (fun _ => br_t rfl (ls_mcY (m := cap) (fun m' => absurd m m') (fun _ => ?_) (fun m' => absurd m m'))) (fun g' => absurd g g')
    rw [e0, e1]
    exact ls_yreplay (x := (x : Int)) hc rfl (by omega) (by omega) (ls_yB_M y4 h1 h2) oM (by rw [e2]; exact nI_toInt (by omega)) (by omega) (by omega) fun r' hr' => ⟨Int32.toInt_inj.mp (by rw [hr', hrr]), J⟩
theorem i_vc_rest {k : Nat} {u : SX} {v : SY} (I : i_Rel k u v) (hk : k + 5 ≤ 2562) (v1 : Int32) (v2 : Int32) (v3 : Int32) : wpX_rest (fun r u' => wpY_rest (fun r' => r' = r ∧ i_Rel (k + 5) u' v) v v1 v2 v3) u v1 v2 v3 := by
  obtain ⟨cap, room, es, hX, hY⟩ := I
  have hl := hX.2.2.2.1
  have hr := hX.2.2.1
  have hc := hX.2.2.2.2.1.1
  have J0 : i_Rel (k + 5) u v := ⟨cap, room, es, hX, hY⟩
  refine ls_X_rest hX (fun g => ?_) (fun g m => ?_) (fun f t x u' M E1 E2 r hA hX' hL hrr => ?_)
  · obtain ⟨f_cap, f_room, f_size, a_kind, a_amount, a_dead, a_source, a_oldKind, a_oldAmount, a_oldDead⟩ := v
    unfold wpY_rest
    exact ls_badY hY.2.2.1 (fun g' => absurd g' g) (fun _ => br_f (by decide) ⟨rfl, J0⟩)
  · obtain ⟨f_cap, f_room, f_size, a_kind, a_amount, a_dead, a_source, a_oldKind, a_oldAmount, a_oldDead⟩ := v
    obtain ⟨y1, y2, y3, y4⟩ := hY
    subst y1
    unfold wpY_rest
    exact ls_badY y3 (fun _ => br_t rfl (ls_mcY (m := cap) (fun _ => ⟨rfl, J0⟩) (fun m' => absurd m' m) (fun _ => ⟨rfl, J0⟩))) (fun g' => absurd g g')
  · have J : i_Rel (k + 5) u' v := ⟨cap, room, es, hX', hY⟩
    obtain ⟨g, e0, e1, hft, ht, m, e2, hx⟩ := hA
    obtain ⟨h1, h2, h3, oM, hv⟩ := hL
    obtain ⟨f_cap, f_room, f_size, a_kind, a_amount, a_dead, a_source, a_oldKind, a_oldAmount, a_oldDead⟩ := v
    obtain ⟨y1, y2, y3, y4⟩ := hY
    subst y1
    unfold wpY_rest
    refine ls_badY y3 (fun _ => br_t rfl (ls_mcY (m := cap) (fun m' => absurd m m') (fun _ => ⟨cap + 2, ?_⟩) (fun m' => absurd m m'))) (fun g' => absurd g g')
    rw [e0, e1]
    exact ls_y32 (x := (x : Int)) hc rfl (by omega) (by omega) (ls_yB_M y4 h1 h2) oM hv (by omega) (by omega) (fun r' hr' => ⟨Int32.toInt_inj.mp (by rw [hr', hrr]), J⟩) (cap + 2) 0 v3 (by omega) (by omega) (by rw [e2]; exact nI_toInt (by omega))
theorem i_vc_leastOpening {k : Nat} {u : SX} {v : SY} (I : i_Rel k u v) (hk : k + 5 ≤ 2562) (v1 : Int32) (v2 : Int32) (v3 : Int32) : wpX_leastOpening (fun r u' => wpY_leastOpening (fun r' => r' = r ∧ i_Rel (k + 5) u' v) v v1 v2 v3) u v1 v2 v3 := by
  obtain ⟨cap, room, es, hX, hY⟩ := I
  have hl := hX.2.2.2.1
  have hr := hX.2.2.1
  have hc := hX.2.2.2.2.1.1
  have J0 : i_Rel (k + 5) u v := ⟨cap, room, es, hX, hY⟩
  refine ls_X_least hX (fun g => ?_) (fun g m => ?_) (fun f t x u' M E1 E2 r hA hX' hL hrr => ?_)
  · obtain ⟨f_cap, f_room, f_size, a_kind, a_amount, a_dead, a_source, a_oldKind, a_oldAmount, a_oldDead⟩ := v
    unfold wpY_leastOpening
    exact ls_badY hY.2.2.1 (fun g' => absurd g' g) (fun _ => br_f (by decide) ⟨rfl, J0⟩)
  · obtain ⟨f_cap, f_room, f_size, a_kind, a_amount, a_dead, a_source, a_oldKind, a_oldAmount, a_oldDead⟩ := v
    obtain ⟨y1, y2, y3, y4⟩ := hY
    subst y1
    unfold wpY_leastOpening
    exact ls_badY y3 (fun _ => br_t rfl (ls_mcY (m := cap) (fun _ => ⟨rfl, J0⟩) (fun m' => absurd m' m) (fun _ => ⟨rfl, J0⟩))) (fun g' => absurd g g')
  · have J : i_Rel (k + 5) u' v := ⟨cap, room, es, hX', hY⟩
    obtain ⟨g, e0, e1, hft, ht, m, e2, hx⟩ := hA
    obtain ⟨h1, h2, h3, oM, hv⟩ := hL
    have hlo := ls_lo_p (y := (x : Int)) hv
    obtain ⟨f_cap, f_room, f_size, a_kind, a_amount, a_dead, a_source, a_oldKind, a_oldAmount, a_oldDead⟩ := v
    obtain ⟨y1, y2, y3, y4⟩ := hY
    subst y1
    unfold wpY_leastOpening
    refine ls_badY y3 (fun _ => br_t rfl (ls_mcY (m := cap) (fun m' => absurd m m') (fun _ => ⟨ls_lo cap (ls_ef cap (ls_lv M)) (x : Int) + 1, ?_⟩) (fun m' => absurd m m'))) (fun g' => absurd g g')
    rw [e0, e1]
    exact ls_y29 (y := (x : Int)) hc rfl (by omega) (by omega) (ls_yB_M y4 h1 h2) oM (by rw [e2]; exact nI_toInt (by omega)) hlo.1 hlo.2.1 hlo.2.2 ⟨hrr.symm, J⟩ _ 0 (by omega) (by omega)
theorem i_vc_openings {k : Nat} {u : SX} {v : SY} (I : i_Rel k u v) (hk : k + 5 ≤ 2562) (v1 : Int32) (v2 : Int32) (v3 : Int32) : wpX_openings (fun r u' => wpY_openings (fun r' => r' = r ∧ i_Rel (k + 5) u' v) v v1 v2 v3) u v1 v2 v3 := by
  obtain ⟨cap, room, es, hX, hY⟩ := I
  have hl := hX.2.2.2.1
  have hr := hX.2.2.1
  have hc := hX.2.2.2.2.1.1
  have J0 : i_Rel (k + 5) u v := ⟨cap, room, es, hX, hY⟩
  refine ls_X_open hX (fun g => ?_) (fun g m => ?_) (fun f t x u' M E1 E2 r hA hX' hL hrr => ?_)
  · obtain ⟨f_cap, f_room, f_size, a_kind, a_amount, a_dead, a_source, a_oldKind, a_oldAmount, a_oldDead⟩ := v
    unfold wpY_openings
    exact ls_badY hY.2.2.1 (fun g' => absurd g' g) (fun _ => br_f (by decide) ⟨rfl, J0⟩)
  · obtain ⟨f_cap, f_room, f_size, a_kind, a_amount, a_dead, a_source, a_oldKind, a_oldAmount, a_oldDead⟩ := v
    obtain ⟨y1, y2, y3, y4⟩ := hY
    subst y1
    unfold wpY_openings
    exact ls_badY y3 (fun _ => br_t rfl (ls_mcY (m := cap) (fun _ => ⟨rfl, J0⟩) (fun m' => absurd m' m) (fun _ => ⟨rfl, J0⟩))) (fun g' => absurd g g')
  · have J : i_Rel (k + 5) u' v := ⟨cap, room, es, hX', hY⟩
    obtain ⟨g, e0, e1, hft, ht, m, e2, hx⟩ := hA
    obtain ⟨h1, h2, h3, oM, hv⟩ := hL
    have hop := ls_op_cn (y := (x : Int)) hv
    have hle := ls_cn_le (ls_app (ls_ef cap (ls_lv M))) (x : Int) (cap + 1)
    obtain ⟨f_cap, f_room, f_size, a_kind, a_amount, a_dead, a_source, a_oldKind, a_oldAmount, a_oldDead⟩ := v
    obtain ⟨y1, y2, y3, y4⟩ := hY
    subst y1
    unfold wpY_openings
    refine ls_badY y3 (fun _ => br_t rfl (ls_mcY (m := cap) (fun m' => absurd m m') (fun _ => ⟨cap + 2, ?_⟩) (fun m' => absurd m m'))) (fun g' => absurd g g')
    rw [e0, e1]
    exact ls_y32o (y := (x : Int)) hc rfl (by omega) (by omega) (ls_yB_M y4 h1 h2) oM (by rw [e2]; exact nI_toInt (by omega)) ⟨Int32.toInt_inj.mp (by rw [nI_toInt (by omega), hrr, hop]), J⟩ (cap + 2) 0 (by omega) (by omega)
theorem i_vc_repeat {k : Nat} {u : SX} {v : SY} (I : i_Rel k u v) (hk : k + 5 ≤ 2562) (v1 : Int32) (v2 : Int32) (v3 : Int32) (v4 : Int32) : wpX_repeat (fun r u' => wpY_repeat (fun r' => r' = r ∧ i_Rel (k + 5) u' v) v v1 v2 v3 v4) u v1 v2 v3 v4 := by
  obtain ⟨cap, room, es, hX, hY⟩ := I
  have hl := hX.2.2.2.1
  have hr := hX.2.2.1
  have hc := hX.2.2.2.2.1.1
  have J0 : i_Rel (k + 5) u v := ⟨cap, room, es, hX, hY⟩
  refine ls_X_repeat hX (fun g => ?_) (fun g m => ?_) (fun g m m3 => ?_) (fun f t x T u' M E1 E2 r hA m3 e3 hT hX' hL hrr => ?_)
  · obtain ⟨f_cap, f_room, f_size, a_kind, a_amount, a_dead, a_source, a_oldKind, a_oldAmount, a_oldDead⟩ := v
    unfold wpY_repeat
    exact ls_badY hY.2.2.1 (fun g' => absurd g' g) (fun _ => br_f (by decide) ⟨rfl, J0⟩)
  · obtain ⟨f_cap, f_room, f_size, a_kind, a_amount, a_dead, a_source, a_oldKind, a_oldAmount, a_oldDead⟩ := v
    obtain ⟨y1, y2, y3, y4⟩ := hY
    subst y1
    unfold wpY_repeat
    exact ls_badY y3 (fun _ => br_t rfl (ls_mcY (m := cap) (fun _ => ⟨rfl, J0⟩) (fun m' => absurd m' m) (fun _ => ⟨rfl, J0⟩))) (fun g' => absurd g g')
  · obtain ⟨f_cap, f_room, f_size, a_kind, a_amount, a_dead, a_source, a_oldKind, a_oldAmount, a_oldDead⟩ := v
    obtain ⟨y1, y2, y3, y4⟩ := hY
    subst y1
    unfold wpY_repeat
    exact ls_badY y3 (fun _ => br_t rfl (ls_mcY (m := cap) (fun m' => absurd m m') (fun _ => ls_mcY (m := 200) (fun _ => ⟨rfl, J0⟩) (fun m' => absurd m' m3) (fun _ => ⟨rfl, J0⟩)) (fun m' => absurd m m'))) (fun g' => absurd g g')
  · have J : i_Rel (k + 5) u' v := ⟨cap, room, es, hX', hY⟩
    obtain ⟨g, e0, e1, hft, ht, m, e2, hx⟩ := hA
    obtain ⟨h1, h2, h3, oM, hv⟩ := hL
    obtain ⟨f_cap, f_room, f_size, a_kind, a_amount, a_dead, a_source, a_oldKind, a_oldAmount, a_oldDead⟩ := v
    obtain ⟨y1, y2, y3, y4⟩ := hY
    subst y1
    unfold wpY_repeat
    refine ls_badY y3 (fun _ => br_t rfl (ls_mcY (m := cap) (fun m' => absurd m m') (fun _ => ls_mcY (m := 200) (fun m' => absurd m3 m') (fun _ => ⟨T + 1, ?_⟩) (fun m' => absurd m3 m')) (fun m' => absurd m m'))) (fun g' => absurd g g')
    rw [e0, e1, e3]
    exact ls_y48 (x := (x : Int)) hc rfl (by omega) (by omega) (ls_yB_M y4 h1 h2) oM hv hT (by omega) (by omega) (fun r' hr' => ⟨Int32.toInt_inj.mp (by rw [hr', hrr]), J⟩) (T + 1) 0 v3 (by omega) (by omega) (by rw [e2]; exact nI_toInt (by omega))
end
section
/-! the reference: the list written anew -/
section
variable {f_cap f_room f_size : Int32} {a_kind a_amount a_dead a_source a_oldKind a_oldAmount a_oldDead : Nat → Int32}
theorem ls_yreb52 {post : SY → Prop} {m : Nat} {σ : Nat → Option Nat} (hm : m ≤ 40) (hσ : ∀ p, p < m → (∃ q, σ p = some q ∧ q < 40 ∧ a_source p = nI q) ∨ (σ p = none ∧ a_source p < 0))
    (K : ∀ k am d : Nat → Int32, (∀ p q, p < m → σ p = some q → k p = a_oldKind q ∧ am p = a_oldAmount q ∧ d p = a_oldDead q) → post (f_cap, f_room, nI m, k, am, d, a_source, a_oldKind, a_oldAmount, a_oldDead)) :
    ∀ (n i : Nat) (k am d : Nat → Int32), m - i < n → i ≤ m → (∀ p q, p < i → σ p = some q → k p = a_oldKind q ∧ am p = a_oldAmount q ∧ d p = a_oldDead q) →
      wY_rebuild_52 post (nI m) f_cap f_room f_size n (nI i) k am d a_source a_oldKind a_oldAmount a_oldDead := by
  intro n
  induction n with
  | zero => intro i k am d h; omega
  | succ n ih =>
    intro i k am d hn hi hk
    by_cases e : i = m
    · subst e
      exact br_t (nI_le (by omega) (by omega)) (K k am d hk)
    · have hin : vp_in (nI i) 40 := vp_in_nI (by omega) (by omega)
      have ci := ls_cln (n := i) (by omega)
      refine br_f (nI_ge (by omega) (by omega)) (br_f (nI_ge (b := 40) (by omega) (by omega)) ⟨hin, nm_r (e' := a_source i) (by rw [ci]) ?_⟩)
      rcases hσ i (by omega) with ⟨q, e1, e2, e3⟩ | ⟨e1, e2⟩
      · have hinq : vp_in (nI q) 40 := vp_in_nI e2 (by omega)
        have cq := ls_cln (n := q) (by omega)
        rw [e3]
        refine br_f (nI_pos (by omega)) (br_f (nI_ge (b := 40) (by omega) (by omega)) ⟨hinq, hin, nm_r (e' := upd k i (a_oldKind q)) (by rw [ci, cq]) ⟨hinq, hin, nm_r (e' := upd am i (a_oldAmount q)) (by rw [ci, cq]) ⟨hinq, hin, nm_r (e' := upd d i (a_oldDead q)) (by rw [ci, cq])
          (nm_r (e' := nI (i + 1)) (nI_1 i) (ih (i + 1) _ _ _ (by omega) (by omega) fun p q' hp hq' => ?_))⟩⟩⟩)
        by_cases ep : p = i
        · rw [ls_us ep, ls_us ep, ls_us ep]
          rw [ep, e1] at hq'
          have := Option.some.inj hq'
          rw [this]; exact ⟨rfl, rfl, rfl⟩
        · rw [ls_un ep, ls_un ep, ls_un ep]
          exact hk p q' (by omega) hq'
      · refine br_t e2 (nm_r (e' := nI (i + 1)) (nI_1 i) (ih (i + 1) _ _ _ (by omega) (by omega) fun p q' hp hq' => ?_))
        have ep : p ≠ i := fun w => by rw [w, e1] at hq'; cases hq'
        exact hk p q' (by omega) hq'
theorem ls_yreb2 {post : SY → Prop} {x1 : Int32}
    (K : ∀ k am d : Nat → Int32, (∀ p, p < 40 → k p = a_kind p ∧ am p = a_amount p ∧ d p = a_dead p) → ∃ n52 : Nat, wY_rebuild_52 post x1 f_cap f_room f_size n52 0 a_kind a_amount a_dead a_source k am d) :
    ∀ (n i : Nat) (k am d : Nat → Int32), 40 - i < n → i ≤ 40 → (∀ p, p < i → k p = a_kind p ∧ am p = a_amount p ∧ d p = a_dead p) → wY_rebuild_2 post x1 f_cap f_room f_size n (nI i) a_kind a_amount a_dead a_source k am d := by
  intro n
  induction n with
  | zero => intro i k am d h; omega
  | succ n ih =>
    intro i k am d hn hi hk
    by_cases e : i = 40
    · subst e
      exact br_t (nI_le (a := 40) (by omega) (by omega)) (K k am d hk)
    · have hin : vp_in (nI i) 40 := vp_in_nI (by omega) (by omega)
      have ci := ls_cln (n := i) (by omega)
      refine br_f (nI_ge (b := 40) (by omega) (by omega)) ⟨hin, hin, nm_r (e' := upd k i (a_kind i)) (by rw [ci]) ⟨hin, hin, nm_r (e' := upd am i (a_amount i)) (by rw [ci]) ⟨hin, hin, nm_r (e' := upd d i (a_dead i)) (by rw [ci])
        (nm_r (e' := nI (i + 1)) (nI_1 i) (ih (i + 1) _ _ _ (by omega) (by omega) fun p hp => ?_))⟩⟩⟩
      by_cases ep : p = i
      · rw [ls_us ep, ls_us ep, ls_us ep, ep]; exact ⟨rfl, rfl, rfl⟩
      · rw [ls_un ep, ls_un ep, ls_un ep]; exact hk p (by omega)
theorem ls_yreb {post : SY → Prop} {m : Nat} {p0 : Int32} {σ : Nat → Option Nat} (h0 : p0 = nI m) (hm : m ≤ 40) (hσ : ∀ p, p < m → (∃ q, σ p = some q ∧ q < 40 ∧ a_source p = nI q) ∨ (σ p = none ∧ a_source p < 0))
    (K : ∀ k am d ok oa od : Nat → Int32, (∀ p q, p < m → σ p = some q → q < 40 → k p = a_kind q ∧ am p = a_amount q ∧ d p = a_dead q) → post (f_cap, f_room, nI m, k, am, d, a_source, ok, oa, od)) :
    wpY_rebuild post (f_cap, f_room, f_size, a_kind, a_amount, a_dead, a_source, a_oldKind, a_oldAmount, a_oldDead) p0 := by
  subst h0
  unfold wpY_rebuild
  refine ⟨41, ls_yreb2 (fun ok oa od ho => ⟨m + 1, ?_⟩) 41 0 _ _ _ (by omega) (by omega) (fun p hp => by omega)⟩
  refine ls_yreb52 (σ := σ) hm hσ (fun k am d hk => K k am d ok oa od fun p q hp hq hq40 => ?_) (m + 1) 0 _ _ _ (by omega) (by omega) (fun p q hp => by omega)
  obtain ⟨h1, h2, h3⟩ := hk p q hp hq
  obtain ⟨g1, g2, g3⟩ := ho q hq40
  exact ⟨h1.trans g1, h2.trans g2, h3.trans g3⟩
end
theorem ls_len_of {es : List ls_It} {p : Nat} {z : ls_It} (h : es[p]? = some z) : p < es.length := by
  rcases Nat.lt_or_ge p es.length with q | q
  · exact q
  · rw [List.getElem?_eq_none q] at h; cases h
/-- the list behind the sources -/
theorem ls_yB_src {k0 m0 d0 k am d : Nat → Int32} {m : Nat} {σ : Nat → Nat} {es es' : List ls_It} (hB : ls_yB k0 m0 d0 0 es) (hes : es.length ≤ 40) (h : ∀ p q, p < m → some (σ p) = some q → q < 40 → k p = k0 q ∧ am p = m0 q ∧ d p = d0 q) (hl : es'.length = m)
    (hs : ∀ p z, es'[p]? = some z → ∃ w, es[σ p]? = some w ∧ w.2 = z.2) : ls_yB k am d 0 es' := by
  intro p z hz
  have hp := ls_len_of hz
  obtain ⟨w, hw, e⟩ := hs p z hz
  have hq := ls_len_of hw
  obtain ⟨h1, h2, h3⟩ := h p (σ p) (by omega) rfl (by omega)
  obtain ⟨b1, b2, b3⟩ := hB (σ p) w hw
  rw [Nat.zero_add] at *
  rw [← e, h1, h2, h3]
  exact ⟨b1, b2, b3⟩
section
variable {f_cap f_room f_size : Int32} {a_kind a_amount a_dead a_source a_oldKind a_oldAmount a_oldDead : Nat → Int32}
theorem ls_y29r {post : Int32 → SY → Prop} {f m : Nat} {x2 : Int32} (hm : m < 40) (hsz : f_size - 1 = nI m)
    (K : ∀ src : Nat → Int32, (∀ p, p < m → src p = nI (if p < f then p else p + 1)) → wY_remove_69 post x2 f_cap f_room f_size a_kind a_amount a_dead src a_oldKind a_oldAmount a_oldDead) :
    ∀ (n i : Nat) (src : Nat → Int32), m - i < n → i ≤ m → (∀ p, p < i → src p = nI (if p < f then p else p + 1)) → f < 2 ^ 31 → wY_remove_29 post (nI f) x2 f_cap f_room f_size n (nI i) a_kind a_amount a_dead src a_oldKind a_oldAmount a_oldDead := by
  intro n
  induction n with
  | zero => intro i src h; omega
  | succ n ih =>
    intro i src hn hi hs hf
    by_cases e : i = m
    · subst e
      exact br_t (by rw [hsz]; exact nI_le (by omega) (by omega)) (K src hs)
    · have hin : vp_in (nI i) 40 := vp_in_nI (by omega) (by omega)
      have ci := ls_cln (n := i) (by omega)
      have step : ∀ v : Int32, v = nI (if i < f then i else i + 1) → wY_remove_29 post (nI f) x2 f_cap f_room f_size n (nI (i + 1)) a_kind a_amount a_dead (upd src i v) a_oldKind a_oldAmount a_oldDead := by
        intro v hv
        refine ih (i + 1) _ (by omega) (by omega) (fun p hp => ?_) hf
        by_cases ep : p = i
        · rw [ls_us ep, hv, ep]
        · rw [ls_un ep]; exact hs p (by omega)
      refine br_f (by rw [hsz]; exact nI_ge (by omega) (by omega)) (br_f (nI_ge (b := 40) (by omega) (by omega)) (br_c (fun q => ?_) (fun q => ?_)))
      · rw [nI_leI hf (by omega)] at q
        exact ⟨hin, nm_r (e' := upd src i (nI i + 1)) (by rw [ci]) (nm_r (e' := nI (i + 1)) (nI_1 i) (step _ (by rw [if_neg (by omega), nI_1])))⟩
      · rw [nI_leI hf (by omega)] at q
        exact ⟨hin, nm_r (e' := upd src i (nI i)) (by rw [ci]) (nm_r (e' := nI (i + 1)) (nI_1 i) (step _ (by rw [if_pos (by omega)])))⟩
theorem ls_y13 {post : Int32 → SY → Prop} {f t m : Nat} (hm : m ≤ 40) (ht : t ≤ m) (hft : f ≤ t) (hsz : f_size = nI m)
    (K : ∀ src : Nat → Int32, (∀ p, p < m → src p = nI (if p < f ∨ t ≤ p then p else f + (t - 1 - p))) → wY_reverse_60 post (nI f) (nI t) f_cap f_room f_size a_kind a_amount a_dead src a_oldKind a_oldAmount a_oldDead) :
    ∀ (n i : Nat) (src : Nat → Int32), m - i < n → i ≤ m → (∀ p, p < i → src p = nI (if p < f ∨ t ≤ p then p else f + (t - 1 - p))) → wY_reverse_13 post (nI f) (nI t) f_cap f_room f_size n (nI i) a_kind a_amount a_dead src a_oldKind a_oldAmount a_oldDead := by
  intro n
  induction n with
  | zero => intro i src h; omega
  | succ n ih =>
    intro i src hn hi hs
    by_cases e : i = m
    · subst e
      exact br_t (by rw [hsz]; exact nI_le (by omega) (by omega)) (K src hs)
    · have hin : vp_in (nI i) 40 := vp_in_nI (by omega) (by omega)
      have ci := ls_cln (n := i) (by omega)
      have step : ∀ v : Int32, v = nI (if i < f ∨ t ≤ i then i else f + (t - 1 - i)) → wY_reverse_13 post (nI f) (nI t) f_cap f_room f_size n (nI (i + 1)) a_kind a_amount a_dead (upd src i v) a_oldKind a_oldAmount a_oldDead := by
        intro v hv
        refine ih (i + 1) _ (by omega) (by omega) (fun p hp => ?_)
        by_cases ep : p = i
        · rw [ls_us ep, hv, ep]
        · rw [ls_un ep]; exact hs p (by omega)
      refine br_f (by rw [hsz]; exact nI_ge (by omega) (by omega)) (br_f (nI_ge (b := 40) (by omega) (by omega)) (br_c (fun q => ?_) (fun q => br_c (fun q' => ?_) (fun q' => ?_))))
      · rw [nI_ltI (by omega) (by omega)] at q
        exact ⟨hin, nm_r (e' := upd src i (nI i)) (by rw [ci]) (nm_r (e' := nI (i + 1)) (nI_1 i) (step _ (by rw [if_pos (by omega)])))⟩
      · rw [nI_leI (by omega) (by omega)] at q'
        exact ⟨hin, nm_r (e' := upd src i (nI i)) (by rw [ci]) (nm_r (e' := nI (i + 1)) (nI_1 i) (step _ (by rw [if_pos (by omega)])))⟩
      · rw [nI_ltI (by omega) (by omega)] at q
        rw [nI_leI (by omega) (by omega)] at q'
        have ev : nI f + ((nI t - 1) - nI i) = nI (f + (t - 1 - i)) := by
          have h1 : nI t - 1 = nI (t - 1) := ls_sub (a := t) (b := 1) (by omega)
          rw [h1, ls_sub (by omega), nI_add]
        exact ⟨hin, nm_r (e' := upd src i (nI (f + (t - 1 - i)))) (by rw [ci, ev]) (nm_r (e' := nI (i + 1)) (nI_1 i) (step _ (by rw [if_neg (by omega)])))⟩
theorem ls_y51 {post : Int32 → SY → Prop} {f d len m : Nat} (hm : m ≤ 40) (hf : f + len ≤ 40) (hd : d + len ≤ m) (hsz : f_size + nI len = nI m)
    (K : ∀ src : Nat → Int32, (∀ p, p < m → src p = nI (if p < d then p else if p < d + len then f + (p - d) else p - len)) → wY_copy_131 post (nI len) f_cap f_room f_size a_kind a_amount a_dead src a_oldKind a_oldAmount a_oldDead) :
    ∀ (n i : Nat) (src : Nat → Int32), m - i < n → i ≤ m → (∀ p, p < i → src p = nI (if p < d then p else if p < d + len then f + (p - d) else p - len)) → wY_copy_51 post (nI f) (nI d) (nI len) f_cap f_room f_size n (nI i) a_kind a_amount a_dead src a_oldKind a_oldAmount a_oldDead := by
  intro n
  induction n with
  | zero => intro i src h; omega
  | succ n ih =>
    intro i src hn hi hs
    by_cases e : i = m
    · subst e
      exact br_t (by rw [hsz]; exact nI_le (by omega) (by omega)) (K src hs)
    · have hin : vp_in (nI i) 40 := vp_in_nI (by omega) (by omega)
      have ci := ls_cln (n := i) (by omega)
      have step : ∀ v : Int32, v = nI (if i < d then i else if i < d + len then f + (i - d) else i - len) → wY_copy_51 post (nI f) (nI d) (nI len) f_cap f_room f_size n (nI (i + 1)) a_kind a_amount a_dead (upd src i v) a_oldKind a_oldAmount a_oldDead := by
        intro v hv
        refine ih (i + 1) _ (by omega) (by omega) (fun p hp => ?_)
        by_cases ep : p = i
        · rw [ls_us ep, hv, ep]
        · rw [ls_un ep]; exact hs p (by omega)
      refine br_f (by rw [hsz]; exact nI_ge (by omega) (by omega)) (br_f (nI_ge (b := 40) (by omega) (by omega)) (br_c (fun q => br_c (fun q' => ?_) (fun q' => ?_)) (fun q => ?_)))
      · rw [nI_leI (by omega) (by omega)] at q
        rw [nI_add, nI_leI (by omega) (by omega)] at q'
        exact ⟨hin, nm_r (e' := upd src i (nI (i - len))) (by rw [ci, ls_sub (by omega)]) (nm_r (e' := nI (i + 1)) (nI_1 i) (step _ (by rw [if_neg (by omega), if_neg (by omega)])))⟩
      · rw [nI_leI (by omega) (by omega)] at q
        rw [nI_add, nI_leI (by omega) (by omega)] at q'
        exact ⟨hin, nm_r (e' := upd src i (nI (f + (i - d)))) (by rw [ci, ls_sub (by omega), nI_add]) (nm_r (e' := nI (i + 1)) (nI_1 i) (step _ (by rw [if_neg (by omega), if_pos (by omega)])))⟩
      · rw [nI_leI (by omega) (by omega)] at q
        exact ⟨hin, nm_r (e' := upd src i (nI i)) (by rw [ci]) (nm_r (e' := nI (i + 1)) (nI_1 i) (step _ (by rw [if_pos (by omega)])))⟩
/-- where the entry stands that is to stand at p -/
def ls_mv (f d len p : Nat) : Nat := if d ≤ p ∧ p < d + len then f + (p - d) else if (if p < d then p else p - len) < f then (if p < d then p else p - len) else (if p < d then p else p - len) + len
theorem ls_y37 {post : Int32 → SY → Prop} {f d len m : Nat} (hm : m ≤ 40) (hf : f + len ≤ m) (hd : d + len ≤ m) (hsz : f_size = nI m)
    (K : ∀ src : Nat → Int32, (∀ p, p < m → src p = nI (ls_mv f d len p)) → wY_move_131 post (nI len) f_cap f_room f_size a_kind a_amount a_dead src a_oldKind a_oldAmount a_oldDead) :
    ∀ (n i : Nat) (src : Nat → Int32), m - i < n → i ≤ m → (∀ p, p < i → src p = nI (ls_mv f d len p)) → wY_move_37 post (nI f) (nI d) (nI len) f_cap f_room f_size n (nI i) a_kind a_amount a_dead src a_oldKind a_oldAmount a_oldDead := by
  intro n
  induction n with
  | zero => intro i src h; omega
  | succ n ih =>
    intro i src hn hi hs
    by_cases e : i = m
    · subst e
      exact br_t (by rw [hsz]; exact nI_le (by omega) (by omega)) (K src hs)
    · have hin : vp_in (nI i) 40 := vp_in_nI (by omega) (by omega)
      have ci := ls_cln (n := i) (by omega)
      have step : ∀ v : Int32, v = nI (ls_mv f d len i) → wY_move_37 post (nI f) (nI d) (nI len) f_cap f_room f_size n (nI (i + 1)) a_kind a_amount a_dead (upd src i v) a_oldKind a_oldAmount a_oldDead := by
        intro v hv
        refine ih (i + 1) _ (by omega) (by omega) (fun p hp => ?_)
        by_cases ep : p = i
        · rw [ls_us ep, hv, ep]
        · rw [ls_un ep]; exact hs p (by omega)
      have k100 : ∀ o : Nat, o < 2 ^ 30 → ¬ (d ≤ i ∧ i < d + len) → o = (if i < d then i else i - len) → wY_move_100 post (wY_move_37 post (nI f) (nI d) (nI len) f_cap f_room f_size n) (nI f) (nI d) (nI len) (nI i) (nI o) f_cap f_room f_size a_kind a_amount a_dead src a_oldKind a_oldAmount a_oldDead := by
        intro o ho hnot heo
        unfold wY_move_100
        refine br_c (fun q => ⟨hin, nm_r (e' := upd src i (nI (o + len))) (by rw [ci, nI_add]) (nm_r (e' := nI (i + 1)) (nI_1 i) (step _ ?_))⟩) (fun q => ⟨hin, nm_r (e' := upd src i (nI o)) (by rw [ci]) (nm_r (e' := nI (i + 1)) (nI_1 i) (step _ ?_))⟩)
        · rw [nI_leI (by omega) (by omega)] at q
          unfold ls_mv; rw [if_neg hnot, ← heo, if_neg (by omega)]
        · rw [nI_leI (by omega) (by omega)] at q
          unfold ls_mv; rw [if_neg hnot, ← heo, if_pos (by omega)]
      have k84 : ¬ (d ≤ i ∧ i < d + len) → wY_move_84 post (wY_move_37 post (nI f) (nI d) (nI len) f_cap f_room f_size n) (nI f) (nI d) (nI len) (nI i) f_cap f_room f_size a_kind a_amount a_dead src a_oldKind a_oldAmount a_oldDead := by
        intro hnot
        unfold wY_move_84
        refine br_c (fun q => ?_) (fun q => ?_)
        · rw [nI_leI (by omega) (by omega)] at q
          rw [ls_sub (by omega)]
          exact k100 _ (by omega) hnot (by rw [if_neg (by omega)])
        · rw [nI_leI (by omega) (by omega)] at q
          exact k100 _ (by omega) hnot (by rw [if_pos (by omega)])
      refine br_f (by rw [hsz]; exact nI_ge (by omega) (by omega)) (br_f (nI_ge (b := 40) (by omega) (by omega)) (br_c (fun q => k84 ?_) (fun q => br_c (fun q' => k84 ?_) (fun q' => ?_))))
      · rw [nI_ltI (by omega) (by omega)] at q; omega
      · rw [nI_add, nI_leI (by omega) (by omega)] at q'; omega
      · rw [nI_ltI (by omega) (by omega)] at q
        rw [nI_add, nI_leI (by omega) (by omega)] at q'
        refine ⟨hin, nm_r (e' := upd src i (nI (f + (i - d)))) (by rw [ci, ls_sub (by omega), nI_add]) (nm_r (e' := nI (i + 1)) (nI_1 i) (step _ ?_))⟩
        unfold ls_mv; rw [if_pos (by omega)]
theorem ls_y75 {post : Int32 → SY → Prop} {pos m : Nat} {x2 x3 : Int32} (hm : m < 40) (hpos : pos ≤ m) (hsz : f_size = nI m)
    (K : ∀ src : Nat → Int32, (∀ p, p < m + 1 → src p = if p < pos then nI p else nI p - 1) → wY_insert_119 post (nI pos) x2 x3 f_cap f_room f_size a_kind a_amount a_dead src a_oldKind a_oldAmount a_oldDead) :
    ∀ (n i : Nat) (src : Nat → Int32), m + 1 - i < n → i ≤ m + 1 → (∀ p, p < i → src p = if p < pos then nI p else nI p - 1) → wY_insert_75 post (nI pos) x2 x3 f_cap f_room f_size n (nI i) a_kind a_amount a_dead src a_oldKind a_oldAmount a_oldDead := by
  intro n
  induction n with
  | zero => intro i src h; omega
  | succ n ih =>
    intro i src hn hi hs
    by_cases e : i = m + 1
    · subst e
      exact br_t (by rw [hsz]; exact nI_lt (by omega) (by omega)) (K src hs)
    · have hin : vp_in (nI i) 40 := vp_in_nI (by omega) (by omega)
      have ci := ls_cln (n := i) (by omega)
      have step : ∀ v : Int32, v = (if i < pos then nI i else nI i - 1) → wY_insert_75 post (nI pos) x2 x3 f_cap f_room f_size n (nI (i + 1)) a_kind a_amount a_dead (upd src i v) a_oldKind a_oldAmount a_oldDead := by
        intro v hv
        refine ih (i + 1) _ (by omega) (by omega) (fun p hp => ?_)
        by_cases ep : p = i
        · rw [ls_us ep, hv, ep]
        · rw [ls_un ep]; exact hs p (by omega)
      refine br_f (by rw [hsz]; exact nI_nlt (by omega) (by omega)) (br_f (nI_ge (b := 40) (by omega) (by omega)) (br_c (fun q => ?_) (fun q => ?_)))
      · rw [nI_leI (by omega) (by omega)] at q
        exact ⟨hin, nm_r (e' := upd src i (nI i - 1)) (by rw [ci]) (nm_r (e' := nI (i + 1)) (nI_1 i) (step _ (by rw [if_neg (by omega)])))⟩
      · rw [nI_leI (by omega) (by omega)] at q
        exact ⟨hin, nm_r (e' := upd src i (nI i)) (by rw [ci]) (nm_r (e' := nI (i + 1)) (nI_1 i) (step _ (by rw [if_pos (by omega)])))⟩
end
end
section
/-! where the entries of a new list stood -/
theorem ls_at_l {A B : List ls_It} {p : Nat} (h : p < A.length) : (A ++ B)[p]? = A[p]? := List.getElem?_append_left h
theorem ls_at_r {A B : List ls_It} {p q : Nat} (h : p = A.length + q) : (A ++ B)[p]? = B[q]? := by
  rw [List.getElem?_append_right (by omega)]
  rw [show p - A.length = q by omega]
theorem ls_src_rm {E1 E2 : List ls_It} {z w : ls_It} {f p : Nat} (hf : E1.length = f) (h : (E1 ++ E2)[p]? = some w) : (E1 ++ z :: E2)[if p < f then p else p + 1]? = some w := by
  by_cases q : p < f
  · rw [if_pos q, ls_at_l (by omega)]
    rw [ls_at_l (by omega)] at h; exact h
  · rw [if_neg q, ls_at_r (q := (p - f) + 1) (by omega)]
    rw [ls_at_r (q := p - f) (by omega)] at h
    rw [List.getElem?_cons_succ]; exact h
theorem ls_src_rev {E1 M E2 : List ls_It} {w : ls_It} {f t p : Nat} (hf : E1.length = f) (hM : M.length = t - f) (hft : f ≤ t) (h : (E1 ++ (M.reverse ++ E2))[p]? = some w) : (E1 ++ (M ++ E2))[if p < f ∨ t ≤ p then p else f + (t - 1 - p)]? = some w := by
  by_cases q : p < f
  · rw [if_pos (Or.inl q), ls_at_l (by omega)]
    rw [ls_at_l (by omega)] at h; exact h
  · rw [ls_at_r (q := p - f) (by omega)] at h
    by_cases q' : t ≤ p
    · rw [if_pos (Or.inr q'), ls_at_r (q := p - f) (by omega), ls_at_r (q := p - t) (by omega)]
      rw [ls_at_r (q := p - t) (by rw [List.length_reverse]; omega)] at h; exact h
    · rw [if_neg (by omega), ls_at_r (q := t - 1 - p) (by omega), ls_at_l (by omega)]
      rw [ls_at_l (by rw [List.length_reverse]; omega), List.getElem?_reverse (by omega)] at h
      rw [show t - 1 - p = M.length - 1 - (p - f) by omega]; exact h
theorem ls_src_mv {E1 M E2 D1 D2 : List ls_It} {w : ls_It} {f d len p : Nat} (hf : E1.length = f) (hM : M.length = len) (hE : E1 ++ E2 = D1 ++ D2) (hd : D1.length = d) (h : (D1 ++ (M ++ D2))[p]? = some w) : (E1 ++ (M ++ E2))[ls_mv f d len p]? = some w := by
  have back : ∀ o : Nat, (E1 ++ E2)[o]? = some w → (E1 ++ (M ++ E2))[if o < f then o else o + len]? = some w := by
    intro o ho
    by_cases q : o < f
    · rw [if_pos q, ls_at_l (by omega)]
      rw [ls_at_l (by omega)] at ho; exact ho
    · rw [if_neg q, ls_at_r (q := o - f + len) (by omega), ls_at_r (q := o - f) (by omega)]
      rw [ls_at_r (q := o - f) (by omega)] at ho; exact ho
  unfold ls_mv
  by_cases q : d ≤ p ∧ p < d + len
  · rw [if_pos q, ls_at_r (q := p - d) (by omega), ls_at_l (by omega)]
    rw [ls_at_r (q := p - d) (by omega), ls_at_l (by omega)] at h; exact h
  · rw [if_neg q]
    apply back
    rw [hE]
    by_cases q' : p < d
    · rw [if_pos q', ls_at_l (by omega)]
      rw [ls_at_l (by omega)] at h; exact h
    · rw [if_neg q', ls_at_r (q := p - len - d) (by omega)]
      rw [ls_at_r (q := p - d) (by omega), ls_at_r (q := p - len - d) (by omega)] at h; exact h
theorem ls_src_cp {es E1 M E2 D1 D2 CC : List ls_It} {w : ls_It} {f d len p : Nat} (hE : es = E1 ++ (M ++ E2)) (hf : E1.length = f) (hM : M.length = len) (hD : es = D1 ++ D2) (hd : D1.length = d) (hC : CC.map (fun x => x.2) = M.map (fun x => x.2)) (h : (D1 ++ (CC ++ D2))[p]? = some w) :
    ∃ v, es[if p < d then p else if p < d + len then f + (p - d) else p - len]? = some v ∧ v.2 = w.2 := by
  have lC : CC.length = len := by
    have := congrArg List.length hC
    rw [List.length_map, List.length_map] at this; omega
  by_cases q : p < d
  · refine ⟨w, ?_, rfl⟩
    rw [if_pos q, hD, ls_at_l (by omega)]
    rw [ls_at_l (by omega)] at h; exact h
  · rw [if_neg q]
    rw [ls_at_r (q := p - d) (by omega)] at h
    by_cases q' : p < d + len
    · rw [if_pos q', hE, ls_at_r (q := p - d) (by omega), ls_at_l (by omega)]
      rw [ls_at_l (by omega)] at h
      have e := congrArg (fun l => l[p - d]?) hC
      rw [List.getElem?_map, List.getElem?_map, h] at e
      cases hv : M[p - d]? with
      | none => rw [hv] at e; cases e
      | some v =>
        rw [hv] at e
        exact ⟨v, rfl, (Option.some.inj e).symm⟩
    · refine ⟨w, ?_, rfl⟩
      rw [if_neg q', hD, ls_at_r (q := p - len - d) (by omega)]
      rw [ls_at_r (q := p - len - d) (by omega)] at h; exact h
theorem ls_src_in {E1 E2 : List ls_It} {z w : ls_It} {pos p : Nat} (hf : E1.length = pos) (h : (E1 ++ z :: E2)[p]? = some w) : (p = pos ∧ w = z) ∨ (p < pos ∧ (E1 ++ E2)[p]? = some w) ∨ (pos < p ∧ (E1 ++ E2)[p - 1]? = some w) := by
  by_cases q : p < pos
  · refine Or.inr (Or.inl ⟨q, ?_⟩)
    rw [ls_at_l (by omega)] at h ⊢; exact h
  · rw [ls_at_r (q := p - pos) (by omega)] at h
    by_cases q' : p = pos
    · rw [show p - pos = 0 by omega] at h
      exact Or.inl ⟨q', (Option.some.inj h).symm⟩
    · refine Or.inr (Or.inr ⟨by omega, ?_⟩)
      rw [ls_at_r (q := p - 1 - pos) (by omega)]
      rw [show p - pos = (p - 1 - pos) + 1 by omega, List.getElem?_cons_succ] at h; exact h
theorem ls_src_sv {E1 M E2 : List ls_It} {b : Bool} {w : ls_It} {f p : Nat} (hf : E1.length = f) (h : (E1 ++ (M.map (ls_sv b) ++ E2))[p]? = some w) :
    (f ≤ p ∧ p < f + M.length ∧ ∃ v, (E1 ++ (M ++ E2))[p]? = some v ∧ w = ls_sv b v) ∨ ((p < f ∨ f + M.length ≤ p) ∧ (E1 ++ (M ++ E2))[p]? = some w) := by
  by_cases q : p < f
  · refine Or.inr ⟨Or.inl q, ?_⟩
    rw [ls_at_l (by omega)] at h ⊢; exact h
  · rw [ls_at_r (q := p - f) (by omega)] at h ⊢
    by_cases q' : p < f + M.length
    · rw [ls_at_l (by rw [List.length_map]; omega), List.getElem?_map] at h
      refine Or.inl ⟨by omega, q', ?_⟩
      rw [ls_at_l (by omega)]
      cases hv : M[p - f]? with
      | none => rw [hv] at h; cases h
      | some v =>
        rw [hv] at h
        exact ⟨v, rfl, (Option.some.inj h).symm⟩
    · refine Or.inr ⟨Or.inr (by omega), ?_⟩
      rw [ls_at_r (q := p - f - M.length) (by omega)]
      rw [ls_at_r (q := p - f - M.length) (by rw [List.length_map]; omega)] at h; exact h
/-- how many flags change -/
def ls_df (b : Bool) : List ls_It → Nat
  | [] => 0
  | z :: L => (if z.2.2.2 = b then 0 else 1) + ls_df b L
theorem ls_df_t : ∀ L : List ls_It, ls_df true L = (ls_lv L).length
  | [] => rfl
  | z :: L => by
    have ih := ls_df_t L
    show (if z.2.2.2 = true then 0 else 1) + ls_df true L = _
    cases hv : z.2.2.2
    · rw [if_neg (by decide), ls_lv_f hv, List.length_cons]; omega
    · rw [if_pos rfl, ls_lv_t hv]; omega
theorem ls_df_f : ∀ L : List ls_It, ls_df false L = L.length - (ls_lv L).length
  | [] => rfl
  | z :: L => by
    have ih := ls_df_f L
    have le := ls_lv_le (A := L)
    show (if z.2.2.2 = false then 0 else 1) + ls_df false L = _
    cases hv : z.2.2.2
    · rw [if_pos rfl, ls_lv_f hv, List.length_cons, List.length_cons]; omega
    · rw [if_neg (by decide), ls_lv_t hv, List.length_cons]; omega
theorem ls_b_inj {a b : Bool} : ls_b a = ls_b b ↔ a = b := by cases a <;> cases b <;> decide
section
variable {f_cap f_room f_size : Int32} {a_kind a_amount a_dead a_source a_oldKind a_oldAmount a_oldDead : Nat → Int32}
theorem ls_y28 {post : Int32 → SY → Prop} {f t C : Nat} {b : Bool} (ht : t ≤ 40)
    (K : ∀ d' : Nat → Int32, (∀ p, p < f ∨ t ≤ p → d' p = a_dead p) → (∀ p, f ≤ p → p < t → d' p = ls_b b) → post (nI C) (f_cap, f_room, f_size, a_kind, a_amount, d', a_source, a_oldKind, a_oldAmount, a_oldDead)) :
    ∀ (L : List ls_It) (n i c : Nat) (d : Nat → Int32), L.length < n → i + L.length = t → f ≤ i → (∀ j z, L[j]? = some z → d (i + j) = ls_b z.2.2.2) → (∀ p, p < f ∨ t ≤ p → d p = a_dead p) → (∀ p, f ≤ p → p < i → d p = ls_b b) → c + ls_df b L = C →
      wY_setVoid_28 post (nI t) (ls_b b) f_cap f_room f_size n (nI c) (nI i) a_kind a_amount d a_source a_oldKind a_oldAmount a_oldDead
  | [], n + 1, i, c, d, _, hi, _, _, h1, h2, hC => by
    rw [List.length_nil] at hi
    have e : C = c := by rw [← hC]; rfl
    subst e
    refine br_t (nI_le (by omega) (by omega)) (K d h1 fun p p1 p2 => h2 p p1 (by omega))
  | z :: L, n + 1, i, c, d, hn, hi, hfi, hL, h1, h2, hC => by
    rw [List.length_cons] at hi hn
    have ci := ls_cln (n := i) (by omega)
    have hin : vp_in (nI i) 40 := vp_in_nI (by omega) (by omega)
    have hz : d i = ls_b z.2.2.2 := hL 0 z rfl
    have step : ∀ c' : Nat, c' + ls_df b L = C → wY_setVoid_28 post (nI t) (ls_b b) f_cap f_room f_size n (nI c') (nI (i + 1)) a_kind a_amount (upd d i (ls_b b)) a_source a_oldKind a_oldAmount a_oldDead := by
      intro c' hc'
      refine ls_y28 ht K L n (i + 1) c' _ (by omega) (by omega) (by omega) (fun j w hw => ?_) (fun p hp => ?_) (fun p p1 p2 => ?_) hc'
      · rw [ls_un (by omega)]
        have := hL (j + 1) w hw
        rw [show i + (j + 1) = i + 1 + j by omega] at this
        exact this
      · rw [ls_un (by omega)]; exact h1 p hp
      · by_cases e : p = i
        · rw [ls_us e]
        · rw [ls_un e]; exact h2 p p1 (by omega)
    have hdf : ls_df b (z :: L) = (if z.2.2.2 = b then 0 else 1) + ls_df b L := rfl
    rw [hdf] at hC
    refine br_f (nI_ge (by omega) (by omega)) (br_f (nI_ge (b := 40) (by omega) (by omega)) ⟨hin, br_c (fun q => ?_) (fun q => ?_)⟩)
    · rw [ci, hz, ls_b_inj] at q
      rw [if_pos q] at hC
      exact ⟨hin, nm_r (e' := upd d i (ls_b b)) (by rw [ci]) (nm_r (e' := nI (i + 1)) (nI_1 i) (step c (by omega)))⟩
    · rw [ci, hz, ls_b_inj] at q
      rw [if_neg q] at hC
      exact nm_r (e' := nI (c + 1)) (nI_1 c) ⟨hin, nm_r (e' := upd d i (ls_b b)) (by rw [ci]) (nm_r (e' := nI (i + 1)) (nI_1 i) (step (c + 1) (by omega)))⟩
end
end
section
/-! the methods that change the list, and the constructor -/
theorem ls_Y_init {cap room : Nat} {p0 p1 : Int32} {post : SY → Prop} (h1 : (nI cap).toInt = ls_cl p0.toInt 4 60) (h2 : (nI room).toInt = ls_cl p1.toInt 2 40) (K : ∀ v, ls_Y cap room [] v → post v) : wpY_init post p0 p1 := by
  have c4 : (4 : Int32).toInt = 4 := by decide
  have c60 : (60 : Int32).toInt = 60 := by decide
  have c2 : (2 : Int32).toInt = 2 := by decide
  have c40 : (40 : Int32).toInt = 40 := by decide
  have fin : ∀ a b : Int32, a = nI cap → b = nI room → ∀ k m d s x y z : Nat → Int32, post (a, b, 0, k, m, d, s, x, y, z) := by
    intro a b ha hb k m d s x y z
    subst ha; subst hb
    refine K _ ⟨rfl, rfl, nI_0.symm, fun j w hw => ?_⟩
    rw [List.getElem?_nil] at hw; cases hw
  have k82 : ∀ z0 : Int32, z0 = nI cap → wY_init_82 post p1 z0 0 0 0 (fun _ => 0) (fun _ => 0) (fun _ => 0) (fun _ => 0) (fun _ => 0) (fun _ => 0) (fun _ => 0) := by
    intro z0 hz0
    unfold wY_init_82
    refine br_c (fun q => br_c (fun q' => fin _ _ hz0 ?_ _ _ _ _ _ _ _) (fun q' => fin _ _ hz0 ?_ _ _ _ _ _ _ _)) (fun q => fin _ _ hz0 ?_ _ _ _ _ _ _ _)
    · rw [Int32.le_iff_toInt_le, c2] at q
      rw [Int32.le_iff_toInt_le, c40] at q'
      apply Int32.toInt_inj.mp
      rw [h2]; unfold ls_cl; omega
    · rw [Int32.le_iff_toInt_le, c2] at q
      rw [Int32.le_iff_toInt_le, c40] at q'
      apply Int32.toInt_inj.mp
      rw [h2, c40]; unfold ls_cl; omega
    · rw [Int32.le_iff_toInt_le, c2] at q
      apply Int32.toInt_inj.mp
      rw [h2, c2]; unfold ls_cl; omega
  unfold wpY_init
  refine br_c (fun q => br_c (fun q' => k82 _ ?_) (fun q' => k82 _ ?_)) (fun q => k82 _ ?_)
  · rw [Int32.le_iff_toInt_le, c4] at q
    rw [Int32.le_iff_toInt_le, c60] at q'
    apply Int32.toInt_inj.mp
    rw [h1]; unfold ls_cl; omega
  · rw [Int32.le_iff_toInt_le, c4] at q
    rw [Int32.le_iff_toInt_le, c60] at q'
    apply Int32.toInt_inj.mp
    rw [h1, c60]; unfold ls_cl; omega
  · rw [Int32.le_iff_toInt_le, c4] at q
    apply Int32.toInt_inj.mp
    rw [h1, c4]; unfold ls_cl; omega
theorem i_vc0 (k0 : Int32) (k1 : Int32) : wpX_init (fun u => wpY_init (fun v => i_Rel 2 u v) k0 k1) k0 k1 :=
  ls_X_init fun u cap room h1 h2 hX => ls_Y_init h1 h2 fun v hY => ⟨cap, room, [], hX, hY⟩
theorem i_vc_remove {k : Nat} {u : SX} {v : SY} (I : i_Rel k u v) (hk : k + 5 ≤ 2562) (v1 : Int32) : wpX_remove (fun r u' => wpY_remove (fun r' v' => r' = r ∧ i_Rel (k + 5) u' v') v v1) u v1 := by
  obtain ⟨cap, room, es, hX, hY⟩ := I
  have hl := hX.2.2.2.1
  have hr := hX.2.2.1
  refine ls_X_remove hX (fun g => ?_) (fun f u' z E1 E2 g e0 hf h1 h2 hX' => ?_)
  · have J : i_Rel (k + 5) u v := ⟨cap, room, es, hX, hY⟩
    obtain ⟨f_cap, f_room, f_size, a_kind, a_amount, a_dead, a_source, a_oldKind, a_oldAmount, a_oldDead⟩ := v
    obtain ⟨y1, y2, y3, y4⟩ := hY
    subst y3
    unfold wpY_remove
    exact ls_gpY (by omega) (fun _ => ⟨rfl, J⟩) (fun _ => ⟨rfl, J⟩) (fun g' => absurd g' g)
  · obtain ⟨f_cap, f_room, f_size, a_kind, a_amount, a_dead, a_source, a_oldKind, a_oldAmount, a_oldDead⟩ := v
    obtain ⟨y1, y2, y3, y4⟩ := hY
    subst y1; subst y2; subst y3
    have len : es.length = E1.length + (E2.length + 1) := by rw [h1, List.length_append, List.length_cons]
    have lE : (E1 ++ E2).length = es.length - 1 := by rw [List.length_append]; omega
    have hz : es[f]? = some z := by rw [h1, ls_at_r (q := 0) (by omega)]; rfl
    have y5 := y4 f z hz
    rw [Nat.zero_add] at y5
    have hsz : nI es.length - 1 = nI (es.length - 1) := ls_sub (a := es.length) (b := 1) (by omega)
    unfold wpY_remove
    refine ls_gpY (by omega) (fun g' => absurd g g') (fun g' => absurd g g') (fun _ _ => ⟨?_, nm_r (e' := z.2.1) ?_ ⟨es.length, ?_⟩⟩)
    · rw [e0]; exact vp_in_nI (by omega) (by omega)
    · rw [e0, ls_cln (by omega)]; exact y5.1
    · rw [e0]
      refine ls_y29r (m := es.length - 1) (by omega) hsz (fun src hsrc => ?_) es.length 0 _ (by omega) (by omega) (fun p hp => by omega) (by omega)
      unfold wY_remove_69
      refine ls_yreb (m := es.length - 1) (σ := fun p => some (if p < f then p else p + 1)) hsz (by omega) (fun p hp => Or.inl ⟨_, rfl, ?_, hsrc p hp⟩) fun k' am d ok oa od hk' => ?_
      · by_cases q : p < f
        · rw [if_pos q]; omega
        · rw [if_neg q]; omega
      · refine ⟨rfl, cap, room, E1 ++ E2, hX', rfl, rfl, by rw [lE], ?_⟩
        refine ls_yB_src (σ := fun p => if p < f then p else p + 1) y4 (by omega) hk' lE fun p w hw => ⟨w, ?_, rfl⟩
        rw [h1]; exact ls_src_rm h2 hw
theorem i_vc_reverse {k : Nat} {u : SX} {v : SY} (I : i_Rel k u v) (hk : k + 5 ≤ 2562) (v1 : Int32) (v2 : Int32) : wpX_reverse (fun r u' => wpY_reverse (fun r' v' => r' = r ∧ i_Rel (k + 5) u' v') v v1 v2) u v1 v2 := by
  obtain ⟨cap, room, es, hX, hY⟩ := I
  have hl := hX.2.2.2.1
  have hr := hX.2.2.1
  refine ls_X_reverse hX (fun g => ?_) (fun f t u' M E1 E2 g e0 e1 hft ht h1 h2 h3 hX' => ?_)
  · have J : i_Rel (k + 5) u v := ⟨cap, room, es, hX, hY⟩
    obtain ⟨f_cap, f_room, f_size, a_kind, a_amount, a_dead, a_source, a_oldKind, a_oldAmount, a_oldDead⟩ := v
    unfold wpY_reverse
    exact ls_badY hY.2.2.1 (fun g' => absurd g' g) (fun _ => br_f (by decide) ⟨rfl, J⟩)
  · obtain ⟨f_cap, f_room, f_size, a_kind, a_amount, a_dead, a_source, a_oldKind, a_oldAmount, a_oldDead⟩ := v
    obtain ⟨y1, y2, y3, y4⟩ := hY
    subst y1; subst y2; subst y3
    have lE : (E1 ++ (M.reverse ++ E2)).length = es.length := by
      rw [h1, List.length_append, List.length_append, List.length_append, List.length_append, List.length_reverse]
    subst e0; subst e1
    unfold wpY_reverse
    refine ls_badY rfl (fun _ => br_t rfl ⟨es.length + 1, ?_⟩) (fun g' => absurd g g')
    refine ls_y13 (m := es.length) (by omega) ht hft rfl (fun src hsrc => ?_) (es.length + 1) 0 _ (by omega) (by omega) (fun p hp => by omega)
    unfold wY_reverse_60
    refine ls_yreb (m := es.length) (σ := fun p => some (if p < f ∨ t ≤ p then p else f + (t - 1 - p))) rfl (by omega) (fun p hp => Or.inl ⟨_, rfl, ?_, hsrc p hp⟩) fun k' am d ok oa od hk' => ?_
    · by_cases q : p < f ∨ t ≤ p
      · rw [if_pos q]; omega
      · rw [if_neg q]; omega
    · refine ⟨rfl, cap, room, _, hX', rfl, rfl, by rw [lE], ?_⟩
      refine ls_yB_src (σ := fun p => if p < f ∨ t ≤ p then p else f + (t - 1 - p)) y4 (by omega) hk' lE fun p w hw => ⟨w, ?_, rfl⟩
      rw [h1]; exact ls_src_rev h2 h3 hft hw
theorem i_vc_move {k : Nat} {u : SX} {v : SY} (I : i_Rel k u v) (hk : k + 5 ≤ 2562) (v1 : Int32) (v2 : Int32) (v3 : Int32) : wpX_move (fun r u' => wpY_move (fun r' v' => r' = r ∧ i_Rel (k + 5) u' v') v v1 v2 v3) u v1 v2 v3 := by
  obtain ⟨cap, room, es, hX, hY⟩ := I
  have hl := hX.2.2.2.1
  have hr := hX.2.2.1
  refine ls_X_move hX (fun g => ?_) (fun f t g e0 e1 hft ht m => ?_) (fun f t d u' M E1 E2 D1 D2 g e0 e1 hft ht m e2 hd h1 h2 h3 h4 h5 hX' => ?_)
  · have J : i_Rel (k + 5) u v := ⟨cap, room, es, hX, hY⟩
    obtain ⟨f_cap, f_room, f_size, a_kind, a_amount, a_dead, a_source, a_oldKind, a_oldAmount, a_oldDead⟩ := v
    unfold wpY_move
    exact ls_badY hY.2.2.1 (fun g' => absurd g' g) (fun _ => br_f (by decide) ⟨rfl, J⟩)
  · have J : i_Rel (k + 5) u v := ⟨cap, room, es, hX, hY⟩
    obtain ⟨f_cap, f_room, f_size, a_kind, a_amount, a_dead, a_source, a_oldKind, a_oldAmount, a_oldDead⟩ := v
    obtain ⟨y1, y2, y3, y4⟩ := hY
    subst y3
    subst e0; subst e1
    have ey : nI es.length - nI (t - f) = nI (es.length - (t - f)) := ls_sub (by omega)
    unfold wpY_move
    refine ls_badY rfl (fun _ => br_t rfl (nm_r (e' := nI (t - f)) (ls_sub hft) ?_)) (fun g' => absurd g g')
    rw [ey]
    exact ls_mcY (fun _ => ⟨rfl, J⟩) (fun m' => absurd m' m) (fun _ => ⟨rfl, J⟩)
  · obtain ⟨f_cap, f_room, f_size, a_kind, a_amount, a_dead, a_source, a_oldKind, a_oldAmount, a_oldDead⟩ := v
    obtain ⟨y1, y2, y3, y4⟩ := hY
    subst y1; subst y2; subst y3
    have lE : (D1 ++ (M ++ D2)).length = es.length := by
      have q := congrArg List.length h4
      rw [List.length_append, List.length_append] at q
      rw [h1, List.length_append, List.length_append, List.length_append, List.length_append]; omega
    subst e0; subst e1; subst e2
    have ey : nI es.length - nI (t - f) = nI (es.length - (t - f)) := ls_sub (by omega)
    unfold wpY_move
    refine ls_badY rfl (fun _ => br_t rfl (nm_r (e' := nI (t - f)) (ls_sub hft) ?_)) (fun g' => absurd g g')
    rw [ey]
    refine ls_mcY (fun m' => absurd m m') (fun _ => ⟨es.length + 1, ?_⟩) (fun m' => absurd m m')
    refine ls_y37 (m := es.length) (by omega) (by omega) (by omega) rfl (fun src hsrc => ?_) (es.length + 1) 0 _ (by omega) (by omega) (fun p hp => by omega)
    unfold wY_move_131
    refine ls_yreb (m := es.length) (σ := fun p => some (ls_mv f d (t - f) p)) rfl (by omega) (fun p hp => Or.inl ⟨_, rfl, ?_, hsrc p hp⟩) fun k' am dd ok oa od hk' => ?_
    · unfold ls_mv
      by_cases q : d ≤ p ∧ p < d + (t - f)
      · rw [if_pos q]; omega
      · rw [if_neg q]
        by_cases q1 : p < d
        · rw [if_pos q1]
          by_cases q2 : p < f
          · rw [if_pos q2]; omega
          · rw [if_neg q2]; omega
        · rw [if_neg q1]
          by_cases q2 : p - (t - f) < f
          · rw [if_pos q2]; omega
          · rw [if_neg q2]; omega
    · refine ⟨rfl, cap, room, _, hX', rfl, rfl, by rw [lE], ?_⟩
      refine ls_yB_src (σ := ls_mv f d (t - f)) y4 (by omega) hk' lE fun p w hw => ⟨w, ?_, rfl⟩
      rw [h1]; exact ls_src_mv h2 h3 h4 h5 hw
theorem i_vc_copy {k : Nat} {u : SX} {v : SY} (I : i_Rel k u v) (hk : k + 5 ≤ 2562) (v1 : Int32) (v2 : Int32) (v3 : Int32) : wpX_copy (fun r u' => wpY_copy (fun r' v' => r' = r ∧ i_Rel (k + 5) u' v') v v1 v2 v3) u v1 v2 v3 := by
  obtain ⟨cap, room, es, hX, hY⟩ := I
  have hl := hX.2.2.2.1
  have hr := hX.2.2.1
  refine ls_X_copy hX (fun g => ?_) (fun g m => ?_) (fun f t g e0 e1 hft ht m hno => ?_) (fun f t d u' M E1 E2 D1 D2 CC g e0 e1 hft ht m e2 hd hro h1 h2 h3 h4 h5 h6 hX' => ?_)
  · have J : i_Rel (k + 5) u v := ⟨cap, room, es, hX, hY⟩
    obtain ⟨f_cap, f_room, f_size, a_kind, a_amount, a_dead, a_source, a_oldKind, a_oldAmount, a_oldDead⟩ := v
    unfold wpY_copy
    exact ls_badY hY.2.2.1 (fun g' => absurd g' g) (fun _ => br_f (by decide) ⟨rfl, J⟩)
  · have J : i_Rel (k + 5) u v := ⟨cap, room, es, hX, hY⟩
    obtain ⟨f_cap, f_room, f_size, a_kind, a_amount, a_dead, a_source, a_oldKind, a_oldAmount, a_oldDead⟩ := v
    obtain ⟨y1, y2, y3, y4⟩ := hY
    subst y3
    unfold wpY_copy
    exact ls_badY rfl (fun _ => br_t rfl (ls_mcY (fun _ => ⟨rfl, J⟩) (fun m' => absurd m' m) (fun _ => ⟨rfl, J⟩))) (fun g' => absurd g g')
  · have J : i_Rel (k + 5) u v := ⟨cap, room, es, hX, hY⟩
    obtain ⟨f_cap, f_room, f_size, a_kind, a_amount, a_dead, a_source, a_oldKind, a_oldAmount, a_oldDead⟩ := v
    obtain ⟨y1, y2, y3, y4⟩ := hY
    subst y2; subst y3
    subst e0; subst e1
    unfold wpY_copy
    refine ls_badY rfl (fun _ => br_t rfl (ls_mcY (fun m' => absurd m m') (fun _ => nm_r (e' := nI (t - f)) (ls_sub hft) (br_f ?_ ⟨rfl, J⟩)) (fun m' => absurd m m'))) (fun g' => absurd g g')
    rw [nI_add, nI_leI (by omega) (by omega)]; exact hno
  · obtain ⟨f_cap, f_room, f_size, a_kind, a_amount, a_dead, a_source, a_oldKind, a_oldAmount, a_oldDead⟩ := v
    obtain ⟨y1, y2, y3, y4⟩ := hY
    subst y1; subst y2; subst y3
    have lC : CC.length = t - f := by
      have q := congrArg List.length h6
      rw [List.length_map, List.length_map] at q; omega
    have lE : (D1 ++ (CC ++ D2)).length = es.length + (t - f) := by
      rw [h4, List.length_append, List.length_append, List.length_append]; omega
    subst e0; subst e1; subst e2
    unfold wpY_copy
    refine ls_badY rfl (fun _ => br_t rfl (ls_mcY (fun m' => absurd m m') (fun _ => nm_r (e' := nI (t - f)) (ls_sub hft) (br_t ?_ ⟨es.length + (t - f) + 1, ?_⟩)) (fun m' => absurd m m'))) (fun g' => absurd g g')
    · rw [nI_add, nI_leI (by omega) (by omega)]; exact hro
    · refine ls_y51 (m := es.length + (t - f)) (by omega) (by omega) (by omega) (nI_add _ _) (fun src hsrc => ?_) (es.length + (t - f) + 1) 0 _ (by omega) (by omega) (fun p hp => by omega)
      unfold wY_copy_131
      refine ls_yreb (m := es.length + (t - f)) (σ := fun p => some (if p < d then p else if p < d + (t - f) then f + (p - d) else p - (t - f))) (nI_add _ _) (by omega) (fun p hp => Or.inl ⟨_, rfl, ?_, hsrc p hp⟩) fun k' am dd ok oa od hk' => ?_
      · by_cases q : p < d
        · rw [if_pos q]; omega
        · rw [if_neg q]
          by_cases q' : p < d + (t - f)
          · rw [if_pos q']; omega
          · rw [if_neg q']; omega
      · refine ⟨rfl, cap, room, _, hX', rfl, rfl, by rw [lE], ?_⟩
        refine ls_yB_src (σ := fun p => if p < d then p else if p < d + (t - f) then f + (p - d) else p - (t - f)) y4 (by omega) hk' lE fun p w hw => ?_
        exact ls_src_cp h1 h2 h3 h4 h5 h6 hw
theorem i_vc_setVoid {k : Nat} {u : SX} {v : SY} (I : i_Rel k u v) (hk : k + 5 ≤ 2562) (v1 : Int32) (v2 : Int32) (v3 : Int32) : wpX_setVoid (fun r u' => wpY_setVoid (fun r' v' => r' = r ∧ i_Rel (k + 5) u' v') v v1 v2 v3) u v1 v2 v3 := by
  obtain ⟨cap, room, es, hX, hY⟩ := I
  have hl := hX.2.2.2.1
  have hr := hX.2.2.1
  refine ls_X_setVoid hX (fun g => ?_) (fun f t u' M E1 E2 b r g e0 e1 hft ht h1 h2 h3 hb hrr hX' => ?_)
  · have J : i_Rel (k + 5) u v := ⟨cap, room, es, hX, hY⟩
    obtain ⟨f_cap, f_room, f_size, a_kind, a_amount, a_dead, a_source, a_oldKind, a_oldAmount, a_oldDead⟩ := v
    unfold wpY_setVoid
    exact ls_badY hY.2.2.1 (fun g' => absurd g' g) (fun _ => br_f (by decide) ⟨rfl, J⟩)
  · obtain ⟨f_cap, f_room, f_size, a_kind, a_amount, a_dead, a_source, a_oldKind, a_oldAmount, a_oldDead⟩ := v
    obtain ⟨y1, y2, y3, y4⟩ := hY
    subst y1; subst y2; subst y3
    have lE : (E1 ++ (M.map (ls_sv b) ++ E2)).length = es.length := by
      rw [h1, List.length_append, List.length_append, List.length_append, List.length_append, List.length_map]
    have hdf : ls_df b M = (if b then (ls_lv M).length else M.length - (ls_lv M).length) := by
      cases b
      · exact ls_df_f M
      · exact ls_df_t M
    have yM := ls_yB_M y4 h1 h2
    subst e0; subst e1
    have loop : wY_setVoid_28 (fun r' v' => r' = r ∧ i_Rel (k + 5) u' v') (nI t) (ls_b b) (nI cap) (nI room) (nI es.length) (M.length + 1) (nI 0) (nI f) a_kind a_amount a_dead a_source a_oldKind a_oldAmount a_oldDead := by
      refine ls_y28 (C := ls_df b M) (b := b) (f := f) (t := t) (by omega) (fun d' d1 d2 => ⟨by rw [hrr, hdf], cap, room, _, hX', rfl, rfl, by rw [lE], ?_⟩) M (M.length + 1) f 0 _ (by omega) (by omega) (Nat.le_refl _) (fun j z hz => (yM j z hz).2.2) (fun _ _ => rfl) (fun p p1 p2 => by omega) (by omega)
      intro p w hw
      rw [Nat.zero_add]
      rcases ls_src_sv h2 hw with ⟨q1, q2, v, q3, q4⟩ | ⟨q1, q2⟩
      · rw [← h1] at q3
        have := y4 p v q3
        rw [Nat.zero_add] at this
        rw [q4]
        exact ⟨this.1, this.2.1, d2 p q1 (by omega)⟩
      · rw [← h1] at q2
        have := y4 p w q2
        rw [Nat.zero_add] at this
        refine ⟨this.1, this.2.1, ?_⟩
        rw [d1 p (by omega)]; exact this.2.2
    unfold wpY_setVoid
    refine ls_badY rfl (fun _ => br_t rfl (br_c (fun q => ⟨M.length + 1, ?_⟩) (fun q => ⟨M.length + 1, ?_⟩))) (fun g' => absurd g g')
    · rw [hb] at q
      rw [q] at loop; exact loop
    · rw [hb] at q
      rw [(Bool.not_eq_false _).mp q] at loop; exact loop
theorem i_vc_insert {k : Nat} {u : SX} {v : SY} (I : i_Rel k u v) (hk : k + 5 ≤ 2562) (v1 : Int32) (v2 : Int32) (v3 : Int32) : wpX_insert (fun r u' => wpY_insert (fun r' v' => r' = r ∧ i_Rel (k + 5) u' v') v v1 v2 v3) u v1 v2 v3 := by
  obtain ⟨cap, room, es, hX, hY⟩ := I
  have hl := hX.2.2.2.1
  have hr := hX.2.2.1
  have key : ∀ (post : Int32 → SY → Prop), (∀ e, ls_ic es.length cap room v1 v2 v3 = some e → post e v) →
      (ls_ic es.length cap room v1 v2 v3 = none → ∀ pos, v1 = nI pos → pos ≤ es.length → es.length < room → (match v with | (f_cap, f_room, f_size, a_kind, a_amount, a_dead, a_source, a_oldKind, a_oldAmount, a_oldDead) => ∃ n75 : Nat, wY_insert_75 post v1 v2 v3 f_cap f_room f_size n75 0 a_kind a_amount a_dead a_source a_oldKind a_oldAmount a_oldDead)) → wpY_insert post v v1 v2 v3 := by
    intro post K0 K1
    obtain ⟨f_cap, f_room, f_size, a_kind, a_amount, a_dead, a_source, a_oldKind, a_oldAmount, a_oldDead⟩ := v
    obtain ⟨y1, y2, y3, y4⟩ := hY
    subst y1; subst y2; subst y3
    have k53 : ¬ nI es.length = nI room → ¬ v1 < 0 → v1 ≤ nI es.length → ¬ v2 < 0 → v2 ≤ 3 → ∀ z0, z0 = (if v2 = 0 then -nI cap else 0) → wY_insert_53 post v1 v2 v3 z0 (nI cap) (nI room) (nI es.length) a_kind a_amount a_dead a_source a_oldKind a_oldAmount a_oldDead := by
      intro h1 h2 h3 h4 h5 z0 hz
      subst hz
      unfold wY_insert_53
      refine br_c (fun h => K0 _ ?_) (fun h => br_c (fun h' => ?_) (fun h' => K0 _ ?_))
      · unfold ls_ic
        rw [if_neg h1, if_neg (fun z => z.elim h2 (fun z => z h3)), if_neg (fun z => z.elim h4 (fun z => z h5)), if_pos (Or.inl h)]
      · have hic : ls_ic es.length cap room v1 v2 v3 = none := by
          unfold ls_ic
          rw [if_neg h1, if_neg (fun z => z.elim h2 (fun z => z h3)), if_neg (fun z => z.elim h4 (fun z => z h5)), if_neg (fun z => z.elim h (fun z => z h'))]
        obtain ⟨pos, hp, e⟩ := nI_of h2
        have hpos : pos ≤ es.length := by
          rw [e, nI_leI hp (by omega)] at h3; exact h3
        have hroom : es.length < room := by
          have : es.length ≠ room := fun q => h1 (by rw [q])
          omega
        exact K1 hic pos e hpos hroom
      · unfold ls_ic
        rw [if_neg h1, if_neg (fun z => z.elim h2 (fun z => z h3)), if_neg (fun z => z.elim h4 (fun z => z h5)), if_pos (Or.inr h')]
    unfold wpY_insert
    refine br_c (fun h1 => K0 _ ?_) (fun h1 => br_c (fun h2 => K0 _ ?_) (fun h2 => br_c (fun h3 => br_c (fun h4 => K0 _ ?_) (fun h4 => br_c (fun h5 => br_c (fun h6 => k53 h1 h2 h3 h4 h5 _ ?_) (fun h6 => k53 h1 h2 h3 h4 h5 _ ?_)) (fun h5 => K0 _ ?_))) (fun h3 => K0 _ ?_)))
    · unfold ls_ic; rw [if_pos h1]
    · unfold ls_ic; rw [if_neg h1, if_pos (Or.inl h2)]
    · unfold ls_ic; rw [if_neg h1, if_neg (fun z => z.elim h2 (fun z => z h3)), if_pos (Or.inl h4)]
    · rw [if_pos h6]
    · rw [if_neg h6]
    · unfold ls_ic; rw [if_neg h1, if_neg (fun z => z.elim h2 (fun z => z h3)), if_pos (Or.inr h5)]
    · unfold ls_ic; rw [if_neg h1, if_pos (Or.inr h3)]
  refine ls_X_insert hX (fun e he => ?_) (fun hn u' n pos E1 E2 e0 hpos hroom h1 h2 hX' => ?_)
  · have J : i_Rel (k + 5) u v := ⟨cap, room, es, hX, hY⟩
    refine key _ (fun e' he' => ⟨?_, J⟩) (fun hn => by rw [he] at hn; cases hn)
    rw [he] at he'
    exact (Option.some.inj he').symm
  · refine key _ (fun e' he' => by rw [hn] at he'; cases he') (fun _ pos' e0' _ _ => ?_)
    obtain ⟨f_cap, f_room, f_size, a_kind, a_amount, a_dead, a_source, a_oldKind, a_oldAmount, a_oldDead⟩ := v
    obtain ⟨y1, y2, y3, y4⟩ := hY
    subst y1; subst y2; subst y3
    have lE : (E1 ++ (n, v2, v3, false) :: E2).length = es.length + 1 := by
      rw [h1, List.length_append, List.length_cons, List.length_append]; omega
    refine ⟨es.length + 2, ?_⟩
    rw [e0]
    refine ls_y75 (m := es.length) (by omega) hpos rfl (fun src hsrc => ?_) (es.length + 2) 0 _ (by omega) (by omega) (fun p hp => by omega)
    unfold wY_insert_119
    refine ls_yreb (m := es.length + 1) (σ := fun p => if p < pos then some p else if p = 0 then none else some (p - 1)) (nI_1 _) (by omega) (fun p hp => ?_) fun k' am d ok oa od hk' => ?_
    · have hs := hsrc p hp
      by_cases q : p < pos
      · rw [if_pos q] at hs
        exact Or.inl ⟨p, by rw [if_pos q], by omega, hs⟩
      · rw [if_neg q] at hs
        by_cases q' : p = 0
        · refine Or.inr ⟨by rw [if_neg q, if_pos q'], ?_⟩
          rw [hs, q']; decide
        · refine Or.inl ⟨p - 1, by rw [if_neg q, if_neg q'], by omega, ?_⟩
          rw [hs]; exact ls_sub (a := p) (b := 1) (by omega)
    · have hin : vp_in (nI pos) 40 := vp_in_nI (by omega) (by omega)
      have cp := ls_cln (n := pos) (by omega)
      refine br_f (nI_ge (b := 40) (by omega) (by omega)) ⟨hin, nm_r (e' := upd k' pos v2) (by rw [cp]) ⟨hin, nm_r (e' := upd am pos v3) (by rw [cp]) ⟨hin, nm_r (e' := upd d pos 0) (by rw [cp]) ⟨rfl, cap, room, _, hX', rfl, rfl, by rw [lE], ?_⟩⟩⟩⟩
      intro p w hw
      rw [Nat.zero_add]
      have hp := ls_len_of hw
      rw [lE] at hp
      rcases ls_src_in h2 hw with ⟨q1, q2⟩ | ⟨q1, q2⟩ | ⟨q1, q2⟩
      · rw [ls_us q1, ls_us q1, ls_us q1, q2]; exact ⟨rfl, rfl, rfl⟩
      · rw [← h1] at q2
        have ne : p ≠ pos := by omega
        rw [ls_un ne, ls_un ne, ls_un ne]
        obtain ⟨g1, g2, g3⟩ := hk' p p hp (by rw [if_pos q1]) (by omega)
        have := y4 p w q2
        rw [Nat.zero_add] at this
        rw [g1, g2, g3]; exact this
      · rw [← h1] at q2
        have ne : p ≠ pos := by omega
        rw [ls_un ne, ls_un ne, ls_un ne]
        obtain ⟨g1, g2, g3⟩ := hk' p (p - 1) hp (by rw [if_neg (by omega), if_neg (by omega)]) (by omega)
        have := y4 (p - 1) w q2
        rw [Nat.zero_add] at this
        rw [g1, g2, g3]; exact this
end

section
/-! A picture of each method as a function that may fail (an index out of range, the fuel spent): if the picture answers, the printed predicate holds of what it answers. -/
/-- a picture's answer is there, and P holds of it -/
def sx_S {α : Type} (o : Option α) (P : α → Prop) : Prop := match o with
  | some a => P a
  | none => False
/-- an index is looked at before it is used -/
def sx_in {α : Type} (i : Int32) (n : Nat) (o : Option α) : Option α := if i < 0 ∨ n ≤ i.toNatClampNeg then none else o
theorem sx_if {α : Type} {c A B : Prop} [Decidable c] {x y : Option α} {P : α → Prop} (h : sx_S (if c then x else y) P) (f : sx_S x P → A) (g : sx_S y P → B) : (c → A) ∧ (¬ c → B) :=
  ⟨fun hc => f (by rw [if_pos hc] at h; exact h), fun hc => g (by rw [if_neg hc] at h; exact h)⟩
theorem sx_w {α : Type} {c : Prop} [Decidable c] {x : Option α} {P : α → Prop} (h : sx_S (if c then x else none) P) : c ∧ sx_S x P := by
  by_cases hc : c
  · rw [if_pos hc] at h; exact ⟨hc, h⟩
  · rw [if_neg hc] at h; exact False.elim h
theorem sx_n {α : Type} {c : Prop} [Decidable c] {x : Option α} {P : α → Prop} (h : sx_S (if c then none else x) P) : ¬ c ∧ sx_S x P := by
  by_cases hc : c
  · rw [if_pos hc] at h; exact False.elim h
  · rw [if_neg hc] at h; exact ⟨hc, h⟩
theorem sx_i {α : Type} {A : Prop} {i : Int32} {n : Nat} {o : Option α} {P : α → Prop} (h : sx_S (sx_in i n o) P) (f : vp_in i n → sx_S o P → A) : vp_in i n ∧ A :=
  have g : (¬ (i < 0 ∨ n ≤ i.toNatClampNeg)) ∧ sx_S o P := sx_n h
  ⟨g.1, f g.1 g.2⟩
theorem sx_m {α : Type} {o : Option α} {P Q : α → Prop} (h : sx_S o P) (f : ∀ a, P a → Q a) : sx_S o Q := by
  cases o with
  | none => exact h
  | some a => exact f a h
theorem sx_b {α β : Type} {o : Option α} {f : α → Option β} {P : β → Prop} {Q : α → Prop} (h : sx_S (o.bind f) P) (g : ∀ a, sx_S (f a) P → Q a) : sx_S o Q := by
  cases o with
  | none => exact h
  | some a => exact g a h
/-! forgetFrom -/
def sx_drop (k : Int32) (a2 : Nat → Int32) : Nat → Int32 → (Nat → Int32) → Option (Nat → Int32)
  | 0 => fun _ _ => none
  | f + 1 => fun i a3 => if k ≤ i then some a3 else sx_in i 64 (if a2 i.toNatClampNeg = 1 then (if a3 i.toNatClampNeg < k then sx_drop k a2 f (i + 1) a3 else sx_drop k a2 f (i + 1) (upd a3 i.toNatClampNeg (-2))) else sx_drop k a2 f (i + 1) a3)
theorem sx_drop_ok {post : St2 → Prop} {l k m e n : Int32} {a1 a2 a4 a5 a6 a7 : Nat → Int32} : ∀ (f : Nat) (i : Int32) (a3 : Nat → Int32), sx_S (sx_drop k a2 f i a3) (fun b => post (l, k, m, e, n, a1, a2, b, a4, a5, a6, a7)) → wX_forgetFrom_15 post l k m e n f i a1 a2 a3 a4 a5 a6 a7
  | 0, _, _, h => False.elim h
  | f + 1, _, _, h => sx_if h (fun h => h) (fun h => sx_i h (fun hv h => sx_if h (fun h => ⟨hv, sx_if h (fun h => nm_e (sx_drop_ok f _ _ h)) (fun h => ⟨hv, nm_e (nm_e (sx_drop_ok f _ _ h))⟩)⟩) (fun h => nm_e (sx_drop_ok f _ _ h))))
def sx_forget (u : St2) (g : Int32) : Option St2 := match u with
  | (l, k, m, e, n, a1, a2, a3, a4, a5, a6, a7) => if k ≤ g then (sx_drop k a2 8 0 a3).bind (fun b => some (l, k, m, e, n, a1, a2, b, a4, a5, a6, a7)) else (sx_drop g a2 8 0 a3).bind (fun b => some (l, g, m, e, n, a1, a2, b, a4, a5, a6, a7))
theorem sx_forget_ok {post : St2 → Prop} (g : Int32) : ∀ (u : St2), sx_S (sx_forget u g) post → wpX_forgetFrom post u g
  | (l, k, m, e, n, a1, a2, a3, a4, a5, a6, a7), h => sx_if h (fun h => ⟨8, sx_drop_ok 8 0 a3 (sx_b h (fun _ h => h))⟩) (fun h => ⟨8, sx_drop_ok 8 0 a3 (sx_b h (fun _ h => h))⟩)
/-! insert, of a kind that is one -/
def sx_shift (g : Int32) : Nat → Int32 → (Nat → Int32) → Option (Nat → Int32)
  | 0 => fun _ _ => none
  | f + 1 => fun i a => if i ≤ g then some a else sx_in (i - 1) 64 (sx_in i 64 (sx_shift g f (i + (-1)) (upd a i.toNatClampNeg (a (i - 1).toNatClampNeg))))
theorem sx_shift_ok {post : Int32 → St2 → Prop} {Q : (Nat → Int32) → Prop} {g c l k m e n : Int32} {a2 a3 a4 a5 a6 a7 : Nat → Int32} (H : ∀ b, Q b → sx_S (sx_in g 64 (sx_forget (l + 1, k, m, e, n, upd b g.toNatClampNeg c, a2, a3, a4, a5, a6, a7) g)) (fun u => post u.1 u)) : ∀ (f : Nat) (i : Int32) (a1 : Nat → Int32), sx_S (sx_shift g f i a1) Q → wX_insert_37 post g c l k m e n f i a1 a2 a3 a4 a5 a6 a7
  | 0, _, _, h => False.elim h
  | f + 1, _, a1, h => sx_if h (fun h => sx_i (H a1 h) (fun _ h => nm_e (nm_e (sx_forget_ok _ _ (sx_m h (fun (l, k, m, e, n, a1, a2, a3, a4, a5, a6, a7) h => h)))))) (fun h => sx_i h (fun _ h => sx_i h (fun _ h => nm_e (nm_e (sx_shift_ok H f _ _ h)))))
def sx_insert (u : St2) (g c : Int32) : Option (Int32 × St2) := match u with
  | (l, k, m, e, n, a1, a2, a3, a4, a5, a6, a7) => if g < 0 then none else if l < g then none else if c < 0 then none else if 7 < c then none else if l = 64 then none else (sx_shift g 8 l a1).bind (fun b => (sx_in g 64 (sx_forget (l + 1, k, m, e, n, upd b g.toNatClampNeg c, a2, a3, a4, a5, a6, a7) g)).bind (fun u => some (u.1, u)))
theorem sx_insert_ok {post : Int32 → St2 → Prop} (g c : Int32) : ∀ (u : St2), sx_S (sx_insert u g c) (fun x => post x.1 x.2) → wpX_insert post u g c
  | (l, k, m, e, n, a1, a2, a3, a4, a5, a6, a7), h => br_f (sx_n h).1 (br_f (sx_n (sx_n h).2).1 (br_f (by decide) (br_f (sx_n (sx_n (sx_n h).2).2).1 (br_f (sx_n (sx_n (sx_n (sx_n h).2).2).2).1 (br_f (by decide) (br_f (sx_n (sx_n (sx_n (sx_n (sx_n h).2).2).2).2).1 ⟨8, sx_shift_ok (fun _ h => h) 8 l a1 (sx_b (sx_n (sx_n (sx_n (sx_n (sx_n h).2).2).2).2).2 (fun _ h => sx_b h (fun _ h => h)))⟩))))))
/-- .. and of one that isn't: nothing changes -/
theorem sx_insert_no {post : Int32 → St2 → Prop} {g c : Int32} {l k m e n : Int32} {a1 a2 a3 a4 a5 a6 a7 : Nat → Int32} (h0 : ¬ g < 0) (h1 : ¬ l < g) (hc : c < 0 ∨ 7 < c) (hp : post (-2) (l, k, m, e, n, a1, a2, a3, a4, a5, a6, a7)) : wpX_insert post (l, k, m, e, n, a1, a2, a3, a4, a5, a6, a7) g c :=
  br_f h0 (br_f h1 (br_f (by decide) (br_c (fun _ => br_t rfl hp) (fun z => br_t (hc.resolve_left z) (br_t rfl hp)))))
/-! load, keep -/
theorem sx_bo {x : Int32} (h : x = 0 ∨ x = 1) : narrow .boolean (.int x) = .int x ∧ fits .boolean (.int x) = true := by
  rcases h with rfl | rfl <;> first | exact ⟨rfl, rfl⟩ | exact ⟨congrArg Value.int (by decide), by decide⟩
def sx_load (u : St2) (p : Int32) : Option St2 := match u with
  | (l, k, m, e, n, a1, a2, a3, a4, a5, a6, a7) => sx_in p 5 (if a6 p.toNatClampNeg = 0 ∨ a6 p.toNatClampNeg = 1 then some (l, k, a5 p.toNatClampNeg, a6 p.toNatClampNeg, a7 p.toNatClampNeg, a1, a2, a3, a4, a5, a6, a7) else none)
theorem sx_load_ok {post : St2 → Prop} (p : Int32) : ∀ (u : St2), sx_S (sx_load u p) post → wpX_load post u p
  | (l, k, m, e, n, a1, a2, a3, a4, a5, a6, a7), h => sx_i h (fun hv h => nm_e ⟨hv, nm_e ⟨(sx_bo (sx_w h).1).1, (sx_bo (sx_w h).1).2, hv, nm_e (sx_w h).2⟩⟩)
def sx_keep (u : St2) (p : Int32) : Option St2 := match u with
  | (l, k, m, e, n, a1, a2, a3, a4, a5, a6, a7) => sx_in p 5 (some (l, k, m, e, n, a1, a2, a3, a4, upd a5 p.toNatClampNeg m, upd a6 p.toNatClampNeg (vp_nar .boolean e), upd a7 p.toNatClampNeg n))
theorem sx_keep_ok {post : St2 → Prop} (p : Int32) : ∀ (u : St2), sx_S (sx_keep u p) post → wpX_keep post u p
  | (l, k, m, e, n, a1, a2, a3, a4, a5, a6, a7), h => sx_i h (fun hv h => nm_e ⟨hv, nm_e ⟨hv, nm_e h⟩⟩)
end
section
/-! note -/
def sx_cl (i z : Int32) (u : St2) : Option St2 := match u with
  | (l, k, m, e, n, a1, a2, a3, a4, a5, a6, a7) => sx_in i 64 (if n = (-2) then some (l, k, m, e, n, a1, upd a2 i.toNatClampNeg z, a3, a4, a5, a6, a7) else sx_in i 64 (sx_in n 64 (some (l, k, m, e, n, a1, upd a2 i.toNatClampNeg z, upd (upd a3 i.toNatClampNeg n) n.toNatClampNeg i, a4, a5, a6, a7))))
theorem sx_cl_ok {post : St2 → Prop} {i z : Int32} {l k m e n : Int32} {a1 a2 a3 a4 a5 a6 a7 : Nat → Int32} (h : sx_S (sx_cl i z (l, k, m, e, n, a1, a2, a3, a4, a5, a6, a7)) post) : wX_note_105 post i z i l k m e n a1 a2 a3 a4 a5 a6 a7 :=
  sx_i h (fun _ h => nm_e (sx_if h (fun h => h) (fun h => sx_i h (fun _ h => nm_e (sx_i h (fun _ h => nm_e h))))))
def sx_note (u : St2) (i : Int32) : Option St2 := match u with
  | (l, k, m, e, n, a1, a2, a3, a4, a5, a6, a7) => sx_in i 64 (if m = 0 then
      (if e = 0 then
        (if a1 i.toNatClampNeg = 0 then some (l, k, m, e, n, a1, upd (upd a2 i.toNatClampNeg 0) i.toNatClampNeg 6, upd a3 i.toNatClampNeg (-2), a4, a5, a6, a7) else if a1 i.toNatClampNeg = 5 then some (l, k, m, e, n, a1, upd (upd a2 i.toNatClampNeg 0) i.toNatClampNeg 6, upd a3 i.toNatClampNeg (-2), a4, a5, a6, a7) else if a1 i.toNatClampNeg = 2 then some (l, k, m, e, n, a1, upd (upd a2 i.toNatClampNeg 0) i.toNatClampNeg 1, upd a3 i.toNatClampNeg (-2), upd a4 i.toNatClampNeg n, a5, a6, a7) else if a1 i.toNatClampNeg = 3 then (if n = (-2) then sx_cl i 3 (l, k, m, e, n, a1, upd a2 i.toNatClampNeg 0, upd a3 i.toNatClampNeg (-2), a4, a5, a6, a7) else sx_cl i 2 (l, k, m, e, n, a1, upd a2 i.toNatClampNeg 0, upd a3 i.toNatClampNeg (-2), a4, a5, a6, a7)) else if a1 i.toNatClampNeg = 4 then some (l, k, m, e, n, a1, upd (upd a2 i.toNatClampNeg 0) i.toNatClampNeg 4, upd a3 i.toNatClampNeg (-2), a4, a5, a6, a7) else some (l, k, m, e, n, a1, upd a2 i.toNatClampNeg 0, upd a3 i.toNatClampNeg (-2), a4, a5, a6, a7))
      else some (l, k, m, e, n, a1, upd (upd a2 i.toNatClampNeg 0) i.toNatClampNeg 6, upd a3 i.toNatClampNeg (-2), a4, a5, a6, a7))
    else if m = 1 then (if e = 0 then (if a1 i.toNatClampNeg = 4 then some (l, k, m, e, n, a1, upd (upd a2 i.toNatClampNeg 0) i.toNatClampNeg 5, upd a3 i.toNatClampNeg (-2), a4, a5, a6, a7) else some (l, k, m, e, n, a1, upd a2 i.toNatClampNeg 0, upd a3 i.toNatClampNeg (-2), a4, a5, a6, a7)) else some (l, k, m, e, n, a1, upd a2 i.toNatClampNeg 0, upd a3 i.toNatClampNeg (-2), a4, a5, a6, a7)) else some (l, k, m, e, n, a1, upd a2 i.toNatClampNeg 0, upd a3 i.toNatClampNeg (-2), a4, a5, a6, a7))
theorem sx_note_ok {post : St2 → Prop} (i : Int32) : ∀ (u : St2), sx_S (sx_note u i) post → wpX_note post u i
  | (l, k, m, e, n, a1, a2, a3, a4, a5, a6, a7), h => sx_i h (fun hv h => nm_e ⟨hv, nm_e ⟨hv, nm_e (sx_if h
      (fun h => sx_if h
        (fun h => sx_if h (fun h => ⟨hv, nm_e h⟩) (fun h => sx_if h (fun h => ⟨hv, nm_e h⟩) (fun h => sx_if h (fun h => ⟨hv, nm_e ⟨hv, nm_e h⟩⟩) (fun h => sx_if h (fun h => sx_if h (fun h => sx_cl_ok h) (fun h => sx_cl_ok h)) (fun h => sx_if h (fun h => ⟨hv, nm_e h⟩) (fun h => h))))))
        (fun h => ⟨hv, nm_e h⟩))
      (fun h => sx_if h (fun h => sx_if h (fun h => sx_if h (fun h => ⟨hv, nm_e h⟩) (fun h => h)) (fun h => h)) (fun h => h)))⟩⟩)
/-! step -/
def sx_esc (c : Int32) (u : St2) : Option St2 := match u with
  | (l, k, m, e, n, a1, a2, a3, a4, a5, a6, a7) => if c = 5 then some (l, k, m, 1, n, a1, a2, a3, a4, a5, a6, a7) else some (l, k, m, 0, n, a1, a2, a3, a4, a5, a6, a7)
theorem sx_101 {post : St2 → Prop} {c : Int32} {l k m e n : Int32} {a1 a2 a3 a4 a5 a6 a7 : Nat → Int32} (h : sx_S (sx_esc c (l, k, m, e, n, a1, a2, a3, a4, a5, a6, a7)) post) : wX_step_101 post c l k m e n a1 a2 a3 a4 a5 a6 a7 := sx_if h (fun h => h) (fun h => h)
theorem sx_71 {post : St2 → Prop} {c z : Int32} {l k m e n : Int32} {a1 a2 a3 a4 a5 a6 a7 : Nat → Int32} (h : sx_S (sx_esc c (l, k, m, e, z, a1, a2, a3, a4, a5, a6, a7)) post) : wX_step_71 post c z l k m e n a1 a2 a3 a4 a5 a6 a7 := sx_if h (fun h => h) (fun h => h)
theorem sx_137 {post : St2 → Prop} {c z : Int32} {l k m e n : Int32} {a1 a2 a3 a4 a5 a6 a7 : Nat → Int32} (h : sx_S (sx_esc c (l, k, z, e, n, a1, a2, a3, a4, a5, a6, a7)) post) : wX_step_137 post c z l k m e n a1 a2 a3 a4 a5 a6 a7 := sx_if h (fun h => h) (fun h => h)
def sx_step (u : St2) (i : Int32) : Option St2 := match u with
  | (l, k, m, e, n, a1, a2, a3, a4, a5, a6, a7) => sx_in i 64 (if e = 0 then
      (if m = 0 then
        (if a1 i.toNatClampNeg = 2 then sx_esc (a1 i.toNatClampNeg) (l, k, m, e, i, a1, a2, a3, a4, a5, a6, a7) else if a1 i.toNatClampNeg = 3 then (if n = (-2) then sx_esc (a1 i.toNatClampNeg) (l, k, m, e, (-2), a1, a2, a3, a4, a5, a6, a7) else sx_in n 64 (sx_esc (a1 i.toNatClampNeg) (l, k, m, e, a4 n.toNatClampNeg, a1, a2, a3, a4, a5, a6, a7))) else if a1 i.toNatClampNeg = 4 then sx_esc (a1 i.toNatClampNeg) (l, k, 1, e, n, a1, a2, a3, a4, a5, a6, a7) else if a1 i.toNatClampNeg = 6 then sx_esc (a1 i.toNatClampNeg) (l, k, 2, e, n, a1, a2, a3, a4, a5, a6, a7) else sx_esc (a1 i.toNatClampNeg) (l, k, m, e, n, a1, a2, a3, a4, a5, a6, a7))
      else if m = 1 then (if a1 i.toNatClampNeg = 4 then sx_esc (a1 i.toNatClampNeg) (l, k, 0, e, n, a1, a2, a3, a4, a5, a6, a7) else sx_esc (a1 i.toNatClampNeg) (l, k, 1, e, n, a1, a2, a3, a4, a5, a6, a7)) else if a1 i.toNatClampNeg = 7 then some (l, k, 0, e, n, a1, a2, a3, a4, a5, a6, a7) else some (l, k, m, e, n, a1, a2, a3, a4, a5, a6, a7))
    else some (l, k, m, 0, n, a1, a2, a3, a4, a5, a6, a7))
theorem sx_step_ok {post : St2 → Prop} (i : Int32) : ∀ (u : St2), sx_S (sx_step u i) post → wpX_step post u i
  | (l, k, m, e, n, a1, a2, a3, a4, a5, a6, a7), h => sx_i h (fun _ h => nm_e (sx_if h
      (fun h => sx_if h
        (fun h => sx_if h (fun h => sx_101 h) (fun h => sx_if h (fun h => sx_if h (fun h => sx_71 h) (fun h => sx_i h (fun _ h => sx_71 h))) (fun h => sx_if h (fun h => sx_101 h) (fun h => sx_if h (fun h => sx_101 h) (fun h => sx_101 h)))))
        (fun h => sx_if h (fun h => sx_if h (fun h => sx_137 h) (fun h => sx_137 h)) (fun h => sx_if h (fun h => h) (fun h => h))))
      (fun h => h)))
/-! readTo -/
def sx_kn (g : Int32) (u : St2) : St2 := match u with
  | (l, k, m, e, n, a1, a2, a3, a4, a5, a6, a7) => (l, g, m, e, n, a1, a2, a3, a4, a5, a6, a7)
def sx_read (g : Int32) : Nat → Int32 → St2 → Option St2
  | 0 => fun _ _ => none
  | f + 1 => fun i u => if g ≤ i then (if g &&& 15 = 0 then (sx_keep u (g >>> ((4 : Int32) &&& 31))).bind (fun v => some (sx_kn g v)) else some (sx_kn g u))
    else if i &&& 15 = 0 then (sx_keep u (i >>> ((4 : Int32) &&& 31))).bind (fun v => (sx_note v i).bind (fun v => (sx_step v i).bind (fun v => sx_read g f (i + 1) v))) else (sx_note u i).bind (fun v => (sx_step v i).bind (fun v => sx_read g f (i + 1) v))
theorem sx_46 {post : St2 → Prop} {J : Int32 → Int32 → Int32 → Int32 → Int32 → Int32 → (Nat → Int32) → (Nat → Int32) → (Nat → Int32) → (Nat → Int32) → (Nat → Int32) → (Nat → Int32) → (Nat → Int32) → Prop} {K : St2 → Option St2} {g i : Int32} (HJ : ∀ (l k m e n : Int32) (a1 a2 a3 a4 a5 a6 a7 : Nat → Int32), sx_S (K (l, k, m, e, n, a1, a2, a3, a4, a5, a6, a7)) post → J (i + 1) l k m e n a1 a2 a3 a4 a5 a6 a7) {l k m e n : Int32} {a1 a2 a3 a4 a5 a6 a7 : Nat → Int32} (h : sx_S ((sx_note (l, k, m, e, n, a1, a2, a3, a4, a5, a6, a7) i).bind (fun v => (sx_step v i).bind K)) post) : wX_readTo_46 post J g i l k m e n a1 a2 a3 a4 a5 a6 a7 :=
  sx_note_ok _ _ (sx_b h (fun (l, k, m, e, n, a1, a2, a3, a4, a5, a6, a7) h => sx_step_ok _ _ (sx_b h (fun (l, k, m, e, n, a1, a2, a3, a4, a5, a6, a7) h => nm_e (HJ _ _ _ _ _ _ _ _ _ _ _ _ h)))))
theorem sx_read_ok {post : St2 → Prop} {g : Int32} : ∀ (f : Nat) (i : Int32) (l k m e n : Int32) (a1 a2 a3 a4 a5 a6 a7 : Nat → Int32), sx_S (sx_read g f i (l, k, m, e, n, a1, a2, a3, a4, a5, a6, a7)) post → wX_readTo_27 post g f i l k m e n a1 a2 a3 a4 a5 a6 a7
  | 0, _, _, _, _, _, _, _, _, _, _, _, _, _, h => False.elim h
  | f + 1, i, _, _, _, _, _, _, _, _, _, _, _, _, h => sx_if h
      (fun h => sx_if h (fun h => sx_keep_ok _ _ (sx_b h (fun (l, k, m, e, n, a1, a2, a3, a4, a5, a6, a7) h => h))) (fun h => h))
      (fun h => sx_if h (fun h => sx_keep_ok _ _ (sx_b h (fun (l, k, m, e, n, a1, a2, a3, a4, a5, a6, a7) h => sx_46 (K := fun v => sx_read g f (i + 1) v) (sx_read_ok f (i + 1)) h))) (fun h => sx_46 (K := fun v => sx_read g f (i + 1) v) (sx_read_ok f (i + 1)) h))
def sx_readTo (u : St2) (g : Int32) : Option St2 := match u with
  | (l, k, m, e, n, a1, a2, a3, a4, a5, a6, a7) => if k < g then (sx_load (l, k, m, e, n, a1, a2, a3, a4, a5, a6, a7) (k >>> ((4 : Int32) &&& 31))).bind (fun v => sx_read g 8 (v.2.1 &&& (-16)) v) else some (l, k, m, e, n, a1, a2, a3, a4, a5, a6, a7)
theorem sx_readTo_ok {post : St2 → Prop} (g : Int32) : ∀ (u : St2), sx_S (sx_readTo u g) post → wpX_readTo post u g
  | (l, k, m, e, n, a1, a2, a3, a4, a5, a6, a7), h => sx_if h (fun h => sx_load_ok _ _ (sx_b h (fun (l, k, m, e, n, a1, a2, a3, a4, a5, a6, a7) h => nm_e ⟨8, sx_read_ok 8 _ _ _ _ _ _ _ _ _ _ _ _ _ h⟩))) (fun h => h)
/-! stateAt -/
def sx_steps (g : Int32) : Nat → Int32 → St2 → Option St2
  | 0 => fun _ _ => none
  | f + 1 => fun i u => if g ≤ i then some u else (sx_step u i).bind (fun v => sx_steps g f (i + 1) v)
theorem sx_steps_ok {post : St2 → Prop} {g : Int32} : ∀ (f : Nat) (i : Int32) (l k m e n : Int32) (a1 a2 a3 a4 a5 a6 a7 : Nat → Int32), sx_S (sx_steps g f i (l, k, m, e, n, a1, a2, a3, a4, a5, a6, a7)) post → wX_stateAt_17 post g f i l k m e n a1 a2 a3 a4 a5 a6 a7
  | 0, _, _, _, _, _, _, _, _, _, _, _, _, _, h => False.elim h
  | f + 1, i, _, _, _, _, _, _, _, _, _, _, _, _, h => sx_if h (fun h => h) (fun h => sx_step_ok _ _ (sx_b h (fun (l, k, m, e, n, a1, a2, a3, a4, a5, a6, a7) h => nm_e (sx_steps_ok f (i + 1) _ _ _ _ _ _ _ _ _ _ _ _ h))))
def sx_stateAt (u : St2) (g : Int32) : Option St2 := (sx_readTo u g).bind (fun v => (sx_load v (g >>> ((4 : Int32) &&& 31))).bind (fun v => sx_steps g 8 (g &&& (-16)) v))
theorem sx_stateAt_ok {post : St2 → Prop} (g : Int32) : ∀ (u : St2), sx_S (sx_stateAt u g) post → wpX_stateAt post u g
  | (l, k, m, e, n, a1, a2, a3, a4, a5, a6, a7), h => sx_readTo_ok _ _ (sx_b h (fun (l, k, m, e, n, a1, a2, a3, a4, a5, a6, a7) h => sx_load_ok _ _ (sx_b h (fun (l, k, m, e, n, a1, a2, a3, a4, a5, a6, a7) h => nm_e ⟨8, sx_steps_ok 8 _ _ _ _ _ _ _ _ _ _ _ _ _ h⟩))))
end
section
/-! the questions: each answers a number and a state -/
def sx_partner (u : St2) (p : Int32) : Option (Int32 × St2) := match u with
  | (l, k, m, e, n, a1, a2, a3, a4, a5, a6, a7) => if p < 0 then none else if l ≤ p then none else (sx_readTo (l, k, m, e, n, a1, a2, a3, a4, a5, a6, a7) l).bind (fun v => match v with
    | (l, k, m, e, n, a1, a2, a3, a4, a5, a6, a7) => sx_in p 64 (if a2 p.toNatClampNeg = 1 then some (a3 p.toNatClampNeg, (l, k, m, e, n, a1, a2, a3, a4, a5, a6, a7)) else if a2 p.toNatClampNeg = 2 then some (a3 p.toNatClampNeg, (l, k, m, e, n, a1, a2, a3, a4, a5, a6, a7)) else some ((-2), (l, k, m, e, n, a1, a2, a3, a4, a5, a6, a7))))
theorem sx_partner_ok {post : Int32 → St2 → Prop} (p : Int32) : ∀ (u : St2), sx_S (sx_partner u p) (fun x => post x.1 x.2) → wpX_partner post u p
  | (l, k, m, e, n, a1, a2, a3, a4, a5, a6, a7), h => br_f (sx_n h).1 (br_f (sx_n (sx_n h).2).1 (br_f (by decide) (sx_readTo_ok _ _ (sx_b (sx_n (sx_n h).2).2 (fun (l, k, m, e, n, a1, a2, a3, a4, a5, a6, a7) h => sx_i h (fun hv h => sx_if h (fun h => ⟨hv, h⟩) (fun h => ⟨hv, sx_if h (fun h => ⟨hv, h⟩) (fun h => h)⟩)))))))
/-! unitEnd -/
def sx_word (u : St2) (x : Int32) : Option (Int32 × St2) := (sx_stateAt u (x + 1)).bind (fun v => match v with
  | (l, k, m, e, n, a1, a2, a3, a4, a5, a6, a7) => if e = 0 then some (x, (l, k, m, e, n, a1, a2, a3, a4, a5, a6, a7)) else some ((-1), (l, k, m, e, n, a1, a2, a3, a4, a5, a6, a7)))
theorem sx_word_ok {post : Int32 → St2 → Prop} {x : Int32} {l k m e n : Int32} {a1 a2 a3 a4 a5 a6 a7 : Nat → Int32} (h : sx_S (sx_word (l, k, m, e, n, a1, a2, a3, a4, a5, a6, a7) x) (fun x => post x.1 x.2)) : wX_unitEnd_133 post x l k m e n a1 a2 a3 a4 a5 a6 a7 :=
  sx_stateAt_ok _ _ (sx_b h (fun (l, k, m, e, n, a1, a2, a3, a4, a5, a6, a7) h => sx_if h (fun h => h) (fun h => h)))
def sx_words (u : St2) : Nat → Int32 → Option (Int32 × St2)
  | 0 => fun _ => none
  | f + 1 => fun x => if u.1 ≤ x + 1 then sx_word u x else sx_in (x + 1) 64 (if u.2.2.2.2.2.2.1 (x + 1).toNatClampNeg = 6 then sx_words u f (x + 1) else sx_word u x)
theorem sx_words_ok {post : Int32 → St2 → Prop} {l k m e n : Int32} {a1 a2 a3 a4 a5 a6 a7 : Nat → Int32} : ∀ (f : Nat) (x : Int32), sx_S (sx_words (l, k, m, e, n, a1, a2, a3, a4, a5, a6, a7) f x) (fun x => post x.1 x.2) → wX_unitEnd_104 post l k m e n a1 a2 a3 a4 a5 a6 a7 f x
  | 0, _, h => False.elim h
  | f + 1, _, h => sx_if h (fun h => sx_word_ok h) (fun h => sx_i h (fun _ h => sx_if h (fun h => nm_e (sx_words_ok f _ h)) (fun h => sx_word_ok h)))
def sx_str (u : St2) : Nat → Int32 → Option (Int32 × St2)
  | 0 => fun _ => none
  | f + 1 => fun x => if u.1 ≤ x then some ((-1), u) else sx_in x 64 (if u.2.2.2.2.2.2.1 x.toNatClampNeg = 5 then some (x, u) else sx_str u f (x + 1))
theorem sx_str_ok {post : Int32 → St2 → Prop} {l k m e n : Int32} {a1 a2 a3 a4 a5 a6 a7 : Nat → Int32} : ∀ (f : Nat) (x : Int32), sx_S (sx_str (l, k, m, e, n, a1, a2, a3, a4, a5, a6, a7) f x) (fun x => post x.1 x.2) → wX_unitEnd_44 post l k m e n a1 a2 a3 a4 a5 a6 a7 f x
  | 0, _, h => False.elim h
  | f + 1, _, h => sx_if h (fun h => h) (fun h => sx_i h (fun _ h => sx_if h (fun h => h) (fun h => nm_e (sx_str_ok f _ h))))
def sx_unitEnd (u : St2) (p : Int32) : Option (Int32 × St2) := match u with
  | (l, k, m, e, n, a1, a2, a3, a4, a5, a6, a7) => sx_in p 64 (if a2 p.toNatClampNeg = 1 then (if 0 ≤ a3 p.toNatClampNeg then some (a3 p.toNatClampNeg, (l, k, m, e, n, a1, a2, a3, a4, a5, a6, a7)) else some ((-1), (l, k, m, e, n, a1, a2, a3, a4, a5, a6, a7)))
    else if a2 p.toNatClampNeg = 4 then sx_str (l, k, m, e, n, a1, a2, a3, a4, a5, a6, a7) 8 (p + 1)
    else if a2 p.toNatClampNeg = 6 then (if p ≤ 0 then sx_words (l, k, m, e, n, a1, a2, a3, a4, a5, a6, a7) 8 p else sx_in (p - 1) 64 (if a2 (p - 1).toNatClampNeg = 6 then some ((-1), (l, k, m, e, n, a1, a2, a3, a4, a5, a6, a7)) else sx_words (l, k, m, e, n, a1, a2, a3, a4, a5, a6, a7) 8 p))
    else some ((-1), (l, k, m, e, n, a1, a2, a3, a4, a5, a6, a7)))
theorem sx_unitEnd_ok {post : Int32 → St2 → Prop} (p : Int32) : ∀ (u : St2), sx_S (sx_unitEnd u p) (fun x => post x.1 x.2) → wpX_unitEnd post u p
  | (l, k, m, e, n, a1, a2, a3, a4, a5, a6, a7), h => sx_i h (fun hv h => sx_if h
      (fun h => ⟨hv, sx_if h (fun h => ⟨hv, h⟩) (fun h => h)⟩)
      (fun h => ⟨hv, sx_if h
        (fun h => nm_e ⟨8, sx_str_ok 8 _ h⟩)
        (fun h => ⟨hv, sx_if h
          (fun h => sx_if h (fun h => ⟨8, sx_words_ok 8 _ h⟩) (fun h => sx_i h (fun _ h => sx_if h (fun h => h) (fun h => ⟨8, sx_words_ok 8 _ h⟩))))
          (fun h => h)⟩)⟩))
/-! forward -/
def sx_fwd : Nat → Int32 → St2 → Option (Int32 × St2)
  | 0 => fun _ _ => none
  | f + 1 => fun i u => if u.1 ≤ i then some ((-2), u) else sx_in i 64 (if u.2.2.2.2.2.2.1 i.toNatClampNeg = 2 then some ((-3), u) else if u.2.2.2.2.2.2.1 i.toNatClampNeg = 3 then some ((-3), u) else (sx_unitEnd u i).bind (fun x => if x.1 < 0 then sx_fwd f (i + 1) x.2 else some (x.1 + 1, x.2)))
theorem sx_fwd_ok {post : Int32 → St2 → Prop} : ∀ (f : Nat) (i : Int32) (l k m e n : Int32) (a1 a2 a3 a4 a5 a6 a7 : Nat → Int32), sx_S (sx_fwd f i (l, k, m, e, n, a1, a2, a3, a4, a5, a6, a7)) (fun x => post x.1 x.2) → wX_forward_20 post f i l k m e n a1 a2 a3 a4 a5 a6 a7
  | 0, _, _, _, _, _, _, _, _, _, _, _, _, _, h => False.elim h
  | f + 1, i, _, _, _, _, _, _, _, _, _, _, _, _, h => sx_if h (fun h => h) (fun h => sx_i h (fun hv h => sx_if h (fun h => h) (fun h => ⟨hv, sx_if h (fun h => h) (fun h => sx_unitEnd_ok _ _ (sx_b h (fun (r, (l, k, m, e, n, a1, a2, a3, a4, a5, a6, a7)) h => sx_if h (fun h => nm_e (sx_fwd_ok f (i + 1) _ _ _ _ _ _ _ _ _ _ _ _ h)) (fun h => h))))⟩)))
def sx_forward (u : St2) (g : Int32) : Option (Int32 × St2) := match u with
  | (l, k, m, e, n, a1, a2, a3, a4, a5, a6, a7) => if g < 0 then none else if l < g then none else (sx_readTo (l, k, m, e, n, a1, a2, a3, a4, a5, a6, a7) l).bind (fun v => sx_fwd 8 g v)
theorem sx_forward_ok {post : Int32 → St2 → Prop} (g : Int32) : ∀ (u : St2), sx_S (sx_forward u g) (fun x => post x.1 x.2) → wpX_forward post u g
  | (l, k, m, e, n, a1, a2, a3, a4, a5, a6, a7), h => br_f (sx_n h).1 (br_f (sx_n (sx_n h).2).1 (br_f (by decide) (sx_readTo_ok _ _ (sx_b (sx_n (sx_n h).2).2 (fun (l, k, m, e, n, a1, a2, a3, a4, a5, a6, a7) h => ⟨8, sx_fwd_ok 8 _ _ _ _ _ _ _ _ _ _ _ _ _ h⟩)))))
/-! depth -/
def sx_deep (a4 : Nat → Int32) : Nat → Int32 → Int32 → Int32 → Option Int32
  | 0 => fun _ _ _ => none
  | f + 1 => fun x y z => if 64 ≤ z then some x else if y = (-2) then some x else sx_in y 64 (sx_deep a4 f (x + 1) (a4 y.toNatClampNeg) (z + 1))
theorem sx_deep_ok {post : Int32 → Prop} {l k m e n : Int32} {a1 a2 a3 a4 a5 a6 a7 : Nat → Int32} : ∀ (f : Nat) (x y z : Int32), sx_S (sx_deep a4 f x y z) post → wX_depthOf_7 post l k m e n a1 a2 a3 a4 a5 a6 a7 f x y z
  | 0, _, _, _, h => False.elim h
  | f + 1, _, _, _, h => sx_if h (fun h => h) (fun h => sx_if h (fun h => h) (fun h => nm_e (sx_i h (fun _ h => nm_e (nm_e (sx_deep_ok f _ _ _ h))))))
theorem sx_deepOf {post : Int32 → Prop} {y : Int32} {l k m e n : Int32} {a1 a2 a3 a4 a5 a6 a7 : Nat → Int32} (h : sx_S (sx_deep a4 8 0 y 0) post) : wpX_depthOf post (l, k, m, e, n, a1, a2, a3, a4, a5, a6, a7) y := Exists.intro 8 (sx_deep_ok 8 _ _ _ h)
def sx_depth (u : St2) (g : Int32) : Option (Int32 × St2) := if g < 0 then none else if u.1 < g then none else (sx_stateAt u g).bind (fun v => (sx_deep v.2.2.2.2.2.2.2.2.1 8 0 v.2.2.2.2.1 0).bind (fun r => some (r, v)))
theorem sx_depth_ok {post : Int32 → St2 → Prop} (g : Int32) : ∀ (u : St2), sx_S (sx_depth u g) (fun x => post x.1 x.2) → wpX_depth post u g
  | (l, k, m, e, n, a1, a2, a3, a4, a5, a6, a7), h => br_f (sx_n h).1 (br_f (sx_n (sx_n h).2).1 (br_f (by decide) (sx_stateAt_ok _ _ (sx_b (sx_n (sx_n h).2).2 (fun (l, k, m, e, n, a1, a2, a3, a4, a5, a6, a7) h => sx_deepOf (sx_b h (fun _ h => h)))))))
/-! strays -/
def sx_stray (u : St2) : Nat → Int32 → Int32 → Option (Int32 × St2)
  | 0 => fun _ _ => none
  | f + 1 => fun x i => if u.1 ≤ i then some (x, u) else sx_in i 64 (if u.2.2.2.2.2.2.1 i.toNatClampNeg = 3 then sx_stray u f (x + 1) (i + 1) else sx_stray u f x (i + 1))
theorem sx_stray_ok {post : Int32 → St2 → Prop} {l k m e n : Int32} {a1 a2 a3 a4 a5 a6 a7 : Nat → Int32} : ∀ (f : Nat) (x i : Int32), sx_S (sx_stray (l, k, m, e, n, a1, a2, a3, a4, a5, a6, a7) f x i) (fun x => post x.1 x.2) → wX_strays_12 post l k m e n a1 a2 a3 a4 a5 a6 a7 f x i
  | 0, _, _, h => False.elim h
  | f + 1, _, _, h => sx_if h (fun h => h) (fun h => sx_i h (fun _ h => sx_if h (fun h => nm_e (nm_e (sx_stray_ok f _ _ h))) (fun h => nm_e (sx_stray_ok f _ _ h))))
def sx_strays (u : St2) : Option (Int32 × St2) := (sx_readTo u u.1).bind (fun v => sx_stray v 8 0 0)
theorem sx_strays_ok {post : Int32 → St2 → Prop} : ∀ (u : St2), sx_S (sx_strays u) (fun x => post x.1 x.2) → wpX_strays post u
  | (l, k, m, e, n, a1, a2, a3, a4, a5, a6, a7), h => sx_readTo_ok _ _ (sx_b h (fun (l, k, m, e, n, a1, a2, a3, a4, a5, a6, a7) h => ⟨8, sx_stray_ok 8 _ _ h⟩))
/-! units -/
def sx_unit : Nat → Int32 → Int32 → St2 → Option (Int32 × St2)
  | 0 => fun _ _ _ => none
  | f + 1 => fun x i u => if u.1 ≤ i then some (x, u) else (sx_unitEnd u i).bind (fun y => if y.1 < 0 then sx_unit f x (i + 1) y.2 else sx_unit f (x + 1) (i + 1) y.2)
theorem sx_unit_ok {post : Int32 → St2 → Prop} : ∀ (f : Nat) (x i : Int32) (l k m e n : Int32) (a1 a2 a3 a4 a5 a6 a7 : Nat → Int32), sx_S (sx_unit f x i (l, k, m, e, n, a1, a2, a3, a4, a5, a6, a7)) (fun x => post x.1 x.2) → wX_units_12 post f x i l k m e n a1 a2 a3 a4 a5 a6 a7
  | 0, _, _, _, _, _, _, _, _, _, _, _, _, _, _, h => False.elim h
  | f + 1, x, i, _, _, _, _, _, _, _, _, _, _, _, _, h => sx_if h (fun h => h) (fun h => sx_unitEnd_ok _ _ (sx_b h (fun (r, (l, k, m, e, n, a1, a2, a3, a4, a5, a6, a7)) h => sx_if h (fun h => nm_e (sx_unit_ok f x (i + 1) _ _ _ _ _ _ _ _ _ _ _ _ h)) (fun h => nm_e (nm_e (sx_unit_ok f (x + 1) (i + 1) _ _ _ _ _ _ _ _ _ _ _ _ h))))))
def sx_units (u : St2) : Option (Int32 × St2) := (sx_readTo u u.1).bind (fun v => sx_unit 8 0 0 v)
theorem sx_units_ok {post : Int32 → St2 → Prop} : ∀ (u : St2), sx_S (sx_units u) (fun x => post x.1 x.2) → wpX_units post u
  | (l, k, m, e, n, a1, a2, a3, a4, a5, a6, a7), h => sx_readTo_ok _ _ (sx_b h (fun (l, k, m, e, n, a1, a2, a3, a4, a5, a6, a7) h => ⟨8, sx_unit_ok 8 _ _ _ _ _ _ _ _ _ _ _ _ _ _ h⟩))
/-! up -/
def sx_up (u : St2) (g : Int32) : Option (Int32 × St2) := if g < 0 then none else if u.1 < g then none else (sx_stateAt u g).bind (fun v => some (v.2.2.2.2.1, v))
theorem sx_up_ok {post : Int32 → St2 → Prop} (g : Int32) : ∀ (u : St2), sx_S (sx_up u g) (fun x => post x.1 x.2) → wpX_up post u g
  | (l, k, m, e, n, a1, a2, a3, a4, a5, a6, a7), h => br_f (sx_n h).1 (br_f (sx_n (sx_n h).2).1 (br_f (by decide) (sx_stateAt_ok _ _ (sx_b (sx_n (sx_n h).2).2 (fun (l, k, m, e, n, a1, a2, a3, a4, a5, a6, a7) h => h)))))
end
section
/-! delete, of any state: what it answers hangs on the length alone -/
theorem sx_fa {post : St2 → Prop} {l m e n : Int32} {a1 a2 a3 a4 a5 a6 a7 : Nat → Int32} {q : Nat} (hq : q ≤ 64) (H : ∀ b, post (l, nI q, m, e, n, a1, a2, b, a4, a5, a6, a7)) : ∃ f, wX_forgetFrom_15 post l (nI q) m e n f 0 a1 a2 a3 a4 a5 a6 a7 :=
  pk_loop (fun f i s => wX_forgetFrom_15 post l (nI q) m e n f (nI i) a1 a2 s a4 a5 a6 a7) (fun _ _ => True) q 0 a3 (Nat.zero_le q) trivial
    (fun f s _ => pk_le q q (fun _ => H s) (fun z => absurd z (Nat.lt_irrefl q)))
    (fun f i s hi _ hw => pk_le q i (fun z => absurd z (by omega)) (fun _ => ⟨pk_in i 64 (by omega), br_c (fun _ => ⟨pk_in i 64 (by omega), br_c (fun _ => nm_r (nI_1 i) (hw s trivial)) (fun _ => ⟨pk_in i 64 (by omega), nm_e (nm_r (nI_1 i) (hw _ trivial))⟩)⟩) (fun _ => nm_r (nI_1 i) (hw s trivial))⟩))
theorem sx_fo {post : St2 → Prop} {l m e n : Int32} {a1 a2 a3 a4 a5 a6 a7 : Nat → Int32} {kk ga : Nat} (hk : kk ≤ 64) (hg : ga ≤ 3) (H : ∀ q b, post (l, nI q, m, e, n, a1, a2, b, a4, a5, a6, a7)) : wpX_forgetFrom post (l, nI kk, m, e, n, a1, a2, a3, a4, a5, a6, a7) (nI ga) :=
  pk_le kk ga (fun _ => sx_fa hk (H kk)) (fun z => sx_fa (by omega) (H ga))
theorem sx_d26 {post : Int32 → St2 → Prop} {m e n : Int32} {a1 a2 a3 a4 a5 a6 a7 : Nat → Int32} {nn kk a b : Nat} (hab : a ≤ b) (hb : b ≤ nn) (hn : nn ≤ 3) (hk : kk ≤ 64) (H : ∀ u, post (nI nn - nI (b - a)) u) : ∃ f, wX_delete_26 post (nI a) (nI (b - a)) (nI nn) (nI kk) m e n f (nI b) a1 a2 a3 a4 a5 a6 a7 :=
  pk_loop (fun f i s => wX_delete_26 post (nI a) (nI (b - a)) (nI nn) (nI kk) m e n f (nI i) s a2 a3 a4 a5 a6 a7) (fun i _ => b ≤ i) nn b a1 hb (Nat.le_refl b)
    (fun f s _ => pk_le nn nn (fun _ => nm_e (br_c (fun _ => H _) (fun _ => sx_fo hk (by omega) (fun q b => H _)))) (fun z => absurd z (Nat.lt_irrefl nn)))
    (fun f i s hi hI hw => pk_le nn i (fun z => absurd z (by omega)) (fun _ => ⟨pk_in i 64 (by omega), pk_in (i - (b - a)) 64 (by omega) (pk_sub (by omega)), nm_e (nm_r (nI_1 i) (hw _ (by omega)))⟩))
theorem sx_del {post : Int32 → St2 → Prop} {m e n p0 p1 : Int32} {a1 a2 a3 a4 a5 a6 a7 : Nat → Int32} {nn kk : Nat} (hn : nn ≤ 3) (hk : kk ≤ 64) (Hb : (p0 < 0 ∨ p1 < p0 ∨ nI nn < p1) → ∀ u, post (-1) u) (Hg : ¬ p0 < 0 → ¬ p1 < p0 → ¬ nI nn < p1 → ∀ u, post (nI nn - (p1 - p0)) u) : wpX_delete post (nI nn, nI kk, m, e, n, a1, a2, a3, a4, a5, a6, a7) p0 p1 := by
  refine br_c (fun h => Hb (Or.inl h) _) (fun h0 => br_c (fun h => Hb (Or.inr (Or.inl h)) _) (fun h1 => br_c (fun h2 => ?_) (fun h2 => Hb (Or.inr (Or.inr ?_)) _)))
  · have h3 : ¬ nI nn < p1 := by
      rw [Int32.le_iff_toInt_le] at h2
      rw [Int32.lt_iff_toInt_lt]
      omega
    have hp : ¬ p1 < 0 := by
      have z0 : (0 : Int32).toInt = 0 := by decide
      rw [Int32.lt_iff_toInt_lt] at h0 h1 ⊢
      omega
    have G := Hg h0 h1 h3
    obtain ⟨a, ha, rfl⟩ := nI_of h0
    obtain ⟨b, hb, rfl⟩ := nI_of hp
    rw [nI_ltI hb ha] at h1
    rw [nI_leI hb (by omega)] at h2
    have hab : a ≤ b := by omega
    refine nm_r (pk_sub hab) (sx_d26 hab h2 hn hk (fun u => ?_))
    have g := G u
    rw [pk_sub hab] at g
    exact g
  · rw [Int32.le_iff_toInt_le] at h2
    rw [Int32.lt_iff_toInt_lt]
    omega
end
section
/-! the law's own numbers, by the kind c; kn: it is one (1) or not (0); lo: it is loose -/
def sx_un (c : Int32) : Int32 := if c = 0 then 2 else if c = 4 then 0 else if c = 6 then 0 else 1
def sx_st (c : Int32) : Int32 := if c = 3 then 1 else 0
def sx_op (c : Int32) : Int32 := if c = 2 then 1 else if c = 4 then 1 else if c = 5 then 1 else if c = 6 then 1 else 0
def sx_fw (lo c : Int32) : Int32 := if lo = 0 then (if c = 2 then 3 else if c = 5 then 3 else if c = 4 then (-2) else if c = 6 then (-2) else 2) else 3
def sx_pa (kn lo c : Int32) : Int32 := if lo = 0 then (if kn = 0 then 1 else if c = 3 then 1 else (-2)) else 2
def sx_lo (kn c : Int32) : Int32 := if kn = 0 then 0 else if c = 0 then 1 else if c = 1 then 1 else if c = 7 then 1 else 0
theorem sx_t {c A B : Prop} [Decidable c] {x y : Int32} (R : Int32 → Prop) (h : R (if c then x else y)) (f : R x → A) (g : R y → B) : (c → A) ∧ (¬ c → B) :=
  ⟨fun hc => f (by rw [if_pos hc] at h; exact h), fun hc => g (by rw [if_neg hc] at h; exact h)⟩
/-! the law's questions, from the last to the first -/
def sx_good (nn : Nat) (u : St2) : Option St2 := if u.1 = nI nn then (if u.2.1 < 0 then none else (if u.2.1 ≤ 64 then some u else none)) else none
def sx_l1 (nn : Nat) (un : Int32) (u : St2) : Option St2 := (sx_units u).bind (fun x => if x.1 = un then (sx_up x.2 1).bind (fun y => if y.1 = 0 then sx_good nn y.2 else none) else none)
def sx_l2 (nn : Nat) (un st r : Int32) (u : St2) : Option St2 := if r = st then sx_l1 nn un u else none
def sx_l3 (nn : Nat) (un st op : Int32) (u : St2) : Option St2 := (sx_depth u (nI nn)).bind (fun x => if x.1 = op then (sx_strays x.2).bind (fun y => sx_l2 nn un st y.1 y.2) else none)
def sx_l4 (kn un st op : Int32) (u : St2) : Option St2 := if kn = 0 then sx_l3 2 un st op u else sx_l3 3 un st op u
def sx_l5 (kn un st op fw : Int32) (u : St2) : Option St2 := (sx_forward u 0).bind (fun x => if x.1 = fw then sx_l4 kn un st op x.2 else none)
def sx_l6 (kn un st op fw pa : Int32) (u : St2) : Option St2 := (sx_partner u 0).bind (fun x => if x.1 = pa then sx_l5 kn un st op fw x.2 else none)
def sx_l8 (kn c z r : Int32) (u : St2) : Option St2 := if r = z then sx_l6 kn (sx_un c) (sx_st c) (sx_op c) (sx_fw (sx_lo kn c) c) (sx_pa kn (sx_lo kn c) c) u else none
theorem sx_314 {post : Int32 → St0 → Prop} {mc ms kc ks : Nat} {m e n x1 x2 z : Int32} {a1 a2 a3 a4 a5 a6 a7 : Nat → Int32} {nn kk : Nat} (hp : post 1 ()) (hn : nn ≤ 3) (hk : kk ≤ 64) (hz : z = 0 → (x1 < 0 ∨ x2 < x1 ∨ nI nn < x2)) (hz' : ¬ z = 0 → ¬ (x1 < 0 ∨ x2 < x1 ∨ nI nn < x2)) : wL_lawOf_314 post mc ms x1 x2 (nI nn) z kc ks (nI nn) (nI kk) m e n a1 a2 a3 a4 a5 a6 a7 :=
  sx_del hn hk (fun hb (l, k, m, e, n, a1, a2, a3, a4, a5, a6, a7) => br_c (fun _ => br_t rfl hp) (fun hq => absurd hb (hz' hq))) (fun g0 g1 g2 (l, k, m, e, n, a1, a2, a3, a4, a5, a6, a7) => br_c (fun hq => absurd (hz hq) (fun h => h.elim g0 (fun h => h.elim g1 g2))) (fun _ => br_t rfl hp))
theorem sx_end {post : Int32 → St0 → Prop} {mc ms kc ks : Nat} {x1 x2 : Int32} {l k m e n : Int32} {a1 a2 a3 a4 a5 a6 a7 : Nat → Int32} {nn : Nat} (hp : post 1 ()) (hn : nn ≤ 3) (h : sx_S (sx_good nn (l, k, m, e, n, a1, a2, a3, a4, a5, a6, a7)) (fun _ => True)) : (x1 < 0 → wL_lawOf_313 post mc ms x1 x2 (nI nn) kc ks l k m e n a1 a2 a3 a4 a5 a6 a7) ∧ (¬ x1 < 0 → ((x2 < x1 → wL_lawOf_313 post mc ms x1 x2 (nI nn) kc ks l k m e n a1 a2 a3 a4 a5 a6 a7) ∧ (¬ x2 < x1 → ((nI nn < x2 → wL_lawOf_313 post mc ms x1 x2 (nI nn) kc ks l k m e n a1 a2 a3 a4 a5 a6 a7) ∧ (¬ nI nn < x2 → wL_lawOf_314 post mc ms x1 x2 (nI nn) 1 kc ks l k m e n a1 a2 a3 a4 a5 a6 a7))))) := by
  have h1 : l = nI nn := (sx_w h).1
  have h2 : ¬ k < 0 := (sx_n (sx_w h).2).1
  have h3 : k ≤ 64 := (sx_w (sx_n (sx_w h).2).2).1
  obtain ⟨kk, hk, e2⟩ := nI_of2 (M := 64) (n := 64) (by decide) h2 h3
  subst h1
  subst e2
  refine br_c (fun g => ?_) (fun g0 => br_c (fun g => ?_) (fun g1 => br_c (fun g => ?_) (fun g2 => ?_)))
  · exact sx_314 hp hn hk (fun _ => Or.inl g) (fun z => absurd rfl z)
  · exact sx_314 hp hn hk (fun _ => Or.inr (Or.inl g)) (fun z => absurd rfl z)
  · exact sx_314 hp hn hk (fun _ => Or.inr (Or.inr g)) (fun z => absurd rfl z)
  · exact sx_314 hp hn hk (fun z => absurd z (by decide)) (fun _ h => h.elim g0 (fun h => h.elim g1 g2))
theorem sx_271 {post : Int32 → St0 → Prop} {mc ms kc ks : Nat} {x1 x2 un : Int32} {l k m e n : Int32} {a1 a2 a3 a4 a5 a6 a7 : Nat → Int32} {nn : Nat} (hp : post 1 ()) (hn : nn ≤ 3) (h : sx_S (sx_l1 nn un (l, k, m, e, n, a1, a2, a3, a4, a5, a6, a7)) (fun _ => True)) : wL_lawOf_271 post mc ms x1 x2 (nI nn) un kc ks l k m e n a1 a2 a3 a4 a5 a6 a7 :=
  sx_units_ok _ (sx_b h (fun (_, (l, k, m, e, n, a1, a2, a3, a4, a5, a6, a7)) h => br_t (sx_w h).1 (sx_up_ok _ _ (sx_b (sx_w h).2 (fun (_, (l, k, m, e, n, a1, a2, a3, a4, a5, a6, a7)) h => br_t (sx_w h).1 (sx_end hp hn (sx_w h).2))))))
theorem sx_242 {post : Int32 → St0 → Prop} {mc ms kc ks : Nat} {x0 x1 x2 st r : Int32} {l k m e n : Int32} {a1 a2 a3 a4 a5 a6 a7 : Nat → Int32} {nn : Nat} (hp : post 1 ()) (hn : nn ≤ 3) (h : sx_S (sx_l2 nn (sx_un x0) st r (l, k, m, e, n, a1, a2, a3, a4, a5, a6, a7)) (fun _ => True)) : wL_lawOf_242 post mc ms x0 x1 x2 (nI nn) st r kc ks l k m e n a1 a2 a3 a4 a5 a6 a7 :=
  br_t (sx_w h).1 (sx_t (fun z => sx_S (sx_l1 nn z (l, k, m, e, n, a1, a2, a3, a4, a5, a6, a7)) (fun _ => True)) (sx_w h).2 (fun h => sx_271 hp hn h) (fun h => sx_t (fun z => sx_S (sx_l1 nn z (l, k, m, e, n, a1, a2, a3, a4, a5, a6, a7)) (fun _ => True)) h (fun h => sx_271 hp hn h) (fun h => sx_t (fun z => sx_S (sx_l1 nn z (l, k, m, e, n, a1, a2, a3, a4, a5, a6, a7)) (fun _ => True)) h (fun h => sx_271 hp hn h) (fun h => sx_271 hp hn h))))
theorem sx_215 {post : Int32 → St0 → Prop} {mc ms kc ks : Nat} {x0 x1 x2 op : Int32} {l k m e n : Int32} {a1 a2 a3 a4 a5 a6 a7 : Nat → Int32} {nn : Nat} (hp : post 1 ()) (hn : nn ≤ 3) (h : sx_S (sx_l3 nn (sx_un x0) (sx_st x0) op (l, k, m, e, n, a1, a2, a3, a4, a5, a6, a7)) (fun _ => True)) : wL_lawOf_215 post mc ms x0 x1 x2 op (nI nn) kc ks l k m e n a1 a2 a3 a4 a5 a6 a7 :=
  sx_depth_ok _ _ (sx_b h (fun (_, (l, k, m, e, n, a1, a2, a3, a4, a5, a6, a7)) h => br_t (sx_w h).1 (sx_strays_ok _ (sx_b (sx_w h).2 (fun (r, (l, k, m, e, n, a1, a2, a3, a4, a5, a6, a7)) h => sx_t (fun z => sx_S (sx_l2 nn (sx_un x0) z r (l, k, m, e, n, a1, a2, a3, a4, a5, a6, a7)) (fun _ => True)) h (fun h => sx_242 hp hn h) (fun h => sx_242 hp hn h))))))
theorem sx_203 {post : Int32 → St0 → Prop} {mc ms kc ks : Nat} {x0 x1 x2 kn op : Int32} {l k m e n : Int32} {a1 a2 a3 a4 a5 a6 a7 : Nat → Int32} (hp : post 1 ()) (h : sx_S (sx_l4 kn (sx_un x0) (sx_st x0) op (l, k, m, e, n, a1, a2, a3, a4, a5, a6, a7)) (fun _ => True)) : wL_lawOf_203 post mc ms x0 x1 x2 kn op kc ks l k m e n a1 a2 a3 a4 a5 a6 a7 :=
  sx_if h (fun h => sx_215 (nn := 2) hp (by decide) h) (fun h => sx_215 (nn := 3) hp (by decide) h)
theorem sx_163 {post : Int32 → St0 → Prop} {mc ms kc ks : Nat} {x0 x1 x2 kn fw : Int32} {l k m e n : Int32} {a1 a2 a3 a4 a5 a6 a7 : Nat → Int32} (hp : post 1 ()) (h : sx_S (sx_l5 kn (sx_un x0) (sx_st x0) (sx_op x0) fw (l, k, m, e, n, a1, a2, a3, a4, a5, a6, a7)) (fun _ => True)) : wL_lawOf_163 post mc ms x0 x1 x2 kn fw kc ks l k m e n a1 a2 a3 a4 a5 a6 a7 :=
  sx_forward_ok _ _ (sx_b h (fun (_, (l, k, m, e, n, a1, a2, a3, a4, a5, a6, a7)) h => br_t (sx_w h).1 (sx_t (fun z => sx_S (sx_l4 kn (sx_un x0) (sx_st x0) z (l, k, m, e, n, a1, a2, a3, a4, a5, a6, a7)) (fun _ => True)) (sx_w h).2 (fun h => sx_203 hp h) (fun h => sx_t (fun z => sx_S (sx_l4 kn (sx_un x0) (sx_st x0) z (l, k, m, e, n, a1, a2, a3, a4, a5, a6, a7)) (fun _ => True)) h (fun h => sx_203 hp h) (fun h => sx_t (fun z => sx_S (sx_l4 kn (sx_un x0) (sx_st x0) z (l, k, m, e, n, a1, a2, a3, a4, a5, a6, a7)) (fun _ => True)) h (fun h => sx_203 hp h) (fun h => sx_t (fun z => sx_S (sx_l4 kn (sx_un x0) (sx_st x0) z (l, k, m, e, n, a1, a2, a3, a4, a5, a6, a7)) (fun _ => True)) h (fun h => sx_203 hp h) (fun h => sx_203 hp h)))))))
theorem sx_113 {post : Int32 → St0 → Prop} {mc ms kc ks : Nat} {x0 x1 x2 kn lo pa : Int32} {l k m e n : Int32} {a1 a2 a3 a4 a5 a6 a7 : Nat → Int32} (hp : post 1 ()) (h : sx_S (sx_l6 kn (sx_un x0) (sx_st x0) (sx_op x0) (sx_fw lo x0) pa (l, k, m, e, n, a1, a2, a3, a4, a5, a6, a7)) (fun _ => True)) : wL_lawOf_113 post mc ms x0 x1 x2 kn lo pa kc ks l k m e n a1 a2 a3 a4 a5 a6 a7 :=
  sx_partner_ok _ _ (sx_b h (fun (_, (l, k, m, e, n, a1, a2, a3, a4, a5, a6, a7)) h =>
    br_t (sx_w h).1 (sx_t (fun z => sx_S (sx_l5 kn (sx_un x0) (sx_st x0) (sx_op x0) z (l, k, m, e, n, a1, a2, a3, a4, a5, a6, a7)) (fun _ => True)) (sx_w h).2
      (fun h => sx_t (fun z => sx_S (sx_l5 kn (sx_un x0) (sx_st x0) (sx_op x0) z (l, k, m, e, n, a1, a2, a3, a4, a5, a6, a7)) (fun _ => True)) h (fun h => sx_163 hp h)
        (fun h => sx_t (fun z => sx_S (sx_l5 kn (sx_un x0) (sx_st x0) (sx_op x0) z (l, k, m, e, n, a1, a2, a3, a4, a5, a6, a7)) (fun _ => True)) h (fun h => sx_163 hp h)
          (fun h => sx_t (fun z => sx_S (sx_l5 kn (sx_un x0) (sx_st x0) (sx_op x0) z (l, k, m, e, n, a1, a2, a3, a4, a5, a6, a7)) (fun _ => True)) h (fun h => sx_163 hp h)
            (fun h => sx_t (fun z => sx_S (sx_l5 kn (sx_un x0) (sx_st x0) (sx_op x0) z (l, k, m, e, n, a1, a2, a3, a4, a5, a6, a7)) (fun _ => True)) h (fun h => sx_163 hp h) (fun h => sx_163 hp h)))))
      (fun h => sx_163 hp h))))
theorem sx_86 {post : Int32 → St0 → Prop} {mc ms kc ks : Nat} {x0 x1 x2 kn lo : Int32} {l k m e n : Int32} {a1 a2 a3 a4 a5 a6 a7 : Nat → Int32} (hp : post 1 ()) (h : sx_S (sx_l6 kn (sx_un x0) (sx_st x0) (sx_op x0) (sx_fw lo x0) (sx_pa kn lo x0) (l, k, m, e, n, a1, a2, a3, a4, a5, a6, a7)) (fun _ => True)) : wL_lawOf_86 post mc ms x0 x1 x2 kn lo kc ks l k m e n a1 a2 a3 a4 a5 a6 a7 :=
  sx_t (fun z => sx_S (sx_l6 kn (sx_un x0) (sx_st x0) (sx_op x0) (sx_fw lo x0) z (l, k, m, e, n, a1, a2, a3, a4, a5, a6, a7)) (fun _ => True)) h
    (fun h => sx_t (fun z => sx_S (sx_l6 kn (sx_un x0) (sx_st x0) (sx_op x0) (sx_fw lo x0) z (l, k, m, e, n, a1, a2, a3, a4, a5, a6, a7)) (fun _ => True)) h (fun h => sx_113 hp h)
      (fun h => sx_t (fun z => sx_S (sx_l6 kn (sx_un x0) (sx_st x0) (sx_op x0) (sx_fw lo x0) z (l, k, m, e, n, a1, a2, a3, a4, a5, a6, a7)) (fun _ => True)) h (fun h => sx_113 hp h) (fun h => sx_113 hp h)))
    (fun h => sx_113 hp h)
theorem sx_56 {post : Int32 → St0 → Prop} {mc ms kc ks : Nat} {x0 x1 x2 kn z r : Int32} {l k m e n : Int32} {a1 a2 a3 a4 a5 a6 a7 : Nat → Int32} (hp : post 1 ()) (h : sx_S (sx_l8 kn x0 z r (l, k, m, e, n, a1, a2, a3, a4, a5, a6, a7)) (fun _ => True)) : wL_lawOf_56 post mc ms x0 x1 x2 kn z r kc ks l k m e n a1 a2 a3 a4 a5 a6 a7 :=
  br_t (sx_w h).1 (sx_t (fun y => sx_S (sx_l6 kn (sx_un x0) (sx_st x0) (sx_op x0) (sx_fw y x0) (sx_pa kn y x0) (l, k, m, e, n, a1, a2, a3, a4, a5, a6, a7)) (fun _ => True)) (sx_w h).2 (fun h => sx_86 hp h)
    (fun h => sx_t (fun y => sx_S (sx_l6 kn (sx_un x0) (sx_st x0) (sx_op x0) (sx_fw y x0) (sx_pa kn y x0) (l, k, m, e, n, a1, a2, a3, a4, a5, a6, a7)) (fun _ => True)) h (fun h => sx_86 hp h)
      (fun h => sx_t (fun y => sx_S (sx_l6 kn (sx_un x0) (sx_st x0) (sx_op x0) (sx_fw y x0) (sx_pa kn y x0) (l, k, m, e, n, a1, a2, a3, a4, a5, a6, a7)) (fun _ => True)) h (fun h => sx_86 hp h)
        (fun h => sx_t (fun y => sx_S (sx_l6 kn (sx_un x0) (sx_st x0) (sx_op x0) (sx_fw y x0) (sx_pa kn y x0) (l, k, m, e, n, a1, a2, a3, a4, a5, a6, a7)) (fun _ => True)) h (fun h => sx_86 hp h) (fun h => sx_86 hp h)))))
/-- the third insert, of a kind -/
theorem sx_37k {post : Int32 → St0 → Prop} {mc ms kc ks : Nat} {x0 x1 x2 : Int32} {l k m e n : Int32} {a1 a2 a3 a4 a5 a6 a7 : Nat → Int32} (hp : post 1 ()) (h : sx_S ((sx_insert (l, k, m, e, n, a1, a2, a3, a4, a5, a6, a7) 1 x0).bind (fun x => sx_l8 1 x0 3 x.1 x.2)) (fun _ => True)) : wL_lawOf_37 post mc ms x0 x1 x2 1 kc ks l k m e n a1 a2 a3 a4 a5 a6 a7 :=
  sx_insert_ok _ _ _ (sx_b h (fun (_, (l, k, m, e, n, a1, a2, a3, a4, a5, a6, a7)) h => br_f (by decide) (sx_56 hp h)))
/-- .. and of no kind -/
theorem sx_37n {post : Int32 → St0 → Prop} {mc ms kc ks : Nat} {x0 x1 x2 : Int32} {l k m e n : Int32} {a1 a2 a3 a4 a5 a6 a7 : Nat → Int32} (hp : post 1 ()) (h0 : ¬ l < 1) (hc : x0 < 0 ∨ 7 < x0) (h : sx_S (sx_l8 0 x0 (-2) (-2) (l, k, m, e, n, a1, a2, a3, a4, a5, a6, a7)) (fun _ => True)) : wL_lawOf_37 post mc ms x0 x1 x2 0 kc ks l k m e n a1 a2 a3 a4 a5 a6 a7 :=
  sx_insert_no (by decide) h0 hc (br_t rfl (sx_56 hp h))
theorem sx_no {c : Int32} (h : c < 0 ∨ 7 < c) (u : St2) : sx_l8 0 c (-2) (-2) u = sx_l6 0 1 0 0 2 1 u := by
  have h0 : ¬ c = 0 := fun e => by subst e; revert h; decide
  have h2 : ¬ c = 2 := fun e => by subst e; revert h; decide
  have h3 : ¬ c = 3 := fun e => by subst e; revert h; decide
  have h4 : ¬ c = 4 := fun e => by subst e; revert h; decide
  have h5 : ¬ c = 5 := fun e => by subst e; revert h; decide
  have h6 : ¬ c = 6 := fun e => by subst e; revert h; decide
  have e1 : sx_un c = 1 := by unfold sx_un; rw [if_neg h0, if_neg h4, if_neg h6]
  have e2 : sx_st c = 0 := by unfold sx_st; rw [if_neg h3]
  have e3 : sx_op c = 0 := by unfold sx_op; rw [if_neg h2, if_neg h4, if_neg h5, if_neg h6]
  have e4 : sx_lo 0 c = 0 := by unfold sx_lo; rw [if_pos rfl]
  have e5 : sx_fw 0 c = 2 := by unfold sx_fw; rw [if_pos rfl, if_neg h2, if_neg h5, if_neg h4, if_neg h6]
  have e6 : sx_pa 0 0 c = 1 := by unfold sx_pa; rw [if_pos rfl, if_pos rfl]
  unfold sx_l8
  rw [if_pos rfl, e1, e2, e3, e4, e5, e6]
end
section
/-! the nine runs, by computing -/
abbrev sx_u0 : St2 := (0, 0, 0, 0, 0, (fun _ => 0), (fun _ => 0), (fun _ => 0), (fun _ => 0), (fun _ => 0), (fun _ => 0), upd (fun _ => 0) 0 (-2))
def sx_run (c : Int32) : Option St2 := (sx_insert sx_u0 0 2).bind (fun x => (sx_insert x.2 1 3).bind (fun x => (sx_insert x.2 1 c).bind (fun x => sx_l8 1 c 3 x.1 x.2)))
def sx_run9 : Option St2 := (sx_insert sx_u0 0 2).bind (fun x => (sx_insert x.2 1 3).bind (fun x => if x.2.1 < 1 then none else sx_l6 0 1 0 0 2 1 x.2))
theorem sx_isS {α : Type} {o : Option α} (h : o.isSome = true) : sx_S o (fun _ => True) := by
  cases o with
  | none => exact absurd h Bool.false_ne_true
  | some a => exact trivial
theorem sx_r0 : (sx_run 0).isSome = true := by decide +kernel
theorem sx_r1 : (sx_run 1).isSome = true := by decide +kernel
theorem sx_r2 : (sx_run 2).isSome = true := by decide +kernel
theorem sx_r3 : (sx_run 3).isSome = true := by decide +kernel
theorem sx_r4 : (sx_run 4).isSome = true := by decide +kernel
theorem sx_r5 : (sx_run 5).isSome = true := by decide +kernel
theorem sx_r6 : (sx_run 6).isSome = true := by decide +kernel
theorem sx_r7 : (sx_run 7).isSome = true := by decide +kernel
theorem sx_r9 : sx_run9.isSome = true := by decide +kernel
theorem sx_rk {c : Int32} (h0 : ¬ c < 0) (h7 : ¬ 7 < c) : sx_S (sx_run c) (fun _ => True) := by
  have hc : c ≤ 7 := by
    rw [Int32.lt_iff_toInt_lt] at h7
    rw [Int32.le_iff_toInt_le]
    omega
  obtain ⟨j, hj, rfl⟩ := nI_of2 (M := 7) (n := 7) (by decide) h0 hc
  have hj' : j = 0 ∨ j = 1 ∨ j = 2 ∨ j = 3 ∨ j = 4 ∨ j = 5 ∨ j = 6 ∨ j = 7 := by omega
  rcases hj' with rfl | rfl | rfl | rfl | rfl | rfl | rfl | rfl
  · exact sx_isS sx_r0
  · exact sx_isS sx_r1
  · exact sx_isS sx_r2
  · exact sx_isS sx_r3
  · exact sx_isS sx_r4
  · exact sx_isS sx_r5
  · exact sx_isS sx_r6
  · exact sx_isS sx_r7
end
section
theorem sx_init {post : St2 → Prop} {mc ms : Nat} (hc : 7 ≤ mc) (hs : 271 ≤ ms) (h : post sx_u0) : wpX_init post mc ms (0, 0, 0, 0, 0) := by
  exact And.intro (by omega) (And.intro (by omega) (And.intro (by omega) (And.intro (by omega) (And.intro (by omega) (And.intro (by omega) (And.intro (by omega) (And.intro (by omega) (And.intro (by omega) (And.intro (by omega) (And.intro (by omega) (And.intro (by omega) (And.intro (by omega) (And.intro (by omega) (nm_e h))))))))))))))
theorem sx_lawOf {post : Int32 → St0 → Prop} (hp : post 1 ()) (x0 x1 x2 : Int32) : wpL_lawOf post 8 283 () x0 x1 x2 := by
  unfold wpL_lawOf
  refine ⟨by decide, by decide, 7, 271, by decide, by decide, sx_init (by decide) (by decide) ?_⟩
  by_cases h0 : x0 < 0
  · exact sx_insert_ok _ _ _ (sx_b (sx_isS sx_r9) (fun (_, (l, k, m, e, n, a1, a2, a3, a4, a5, a6, a7)) h => sx_insert_ok _ _ _ (sx_b h (fun (_, (l, k, m, e, n, a1, a2, a3, a4, a5, a6, a7)) h => br_t h0 (sx_37n hp (sx_n h).1 (Or.inl h0) (by rw [sx_no (Or.inl h0)]; exact (sx_n h).2))))))
  · by_cases h7 : 7 < x0
    · exact sx_insert_ok _ _ _ (sx_b (sx_isS sx_r9) (fun (_, (l, k, m, e, n, a1, a2, a3, a4, a5, a6, a7)) h => sx_insert_ok _ _ _ (sx_b h (fun (_, (l, k, m, e, n, a1, a2, a3, a4, a5, a6, a7)) h => br_f h0 (br_t h7 (sx_37n hp (sx_n h).1 (Or.inr h7) (by rw [sx_no (Or.inr h7)]; exact (sx_n h).2)))))))
    · exact sx_insert_ok _ _ _ (sx_b (sx_rk h0 h7) (fun (_, (l, k, m, e, n, a1, a2, a3, a4, a5, a6, a7)) h => sx_insert_ok _ _ _ (sx_b h (fun (_, (l, k, m, e, n, a1, a2, a3, a4, a5, a6, a7)) h => br_f h0 (br_f h7 (sx_37k hp h))))))
theorem sx_cell {post : Int32 → Prop} {L : Nat} {xs : Nat → Int32} (i : Nat) (hL : L ≤ 3) (hi : i ≤ 3) (H : ∀ v, post v) : wpL_cellAt post L xs () (nI i) :=
  br_c (fun _ => H 0) (fun h => ⟨vp_in_nI (Nat.lt_of_not_le (fun z => h (nI_le z (by omega)))) (by omega), H _⟩)
theorem i_vc (xs : Nat → Int32) (L : Nat) (hL : L ≤ 3) : wpL_law (fun r => r = 1) L xs :=
  sx_cell 0 hL (by decide) (fun _ => sx_cell 1 hL (by decide) (fun _ => sx_cell 2 hL (by decide) (fun _ => ⟨8, 283, by decide, by decide, sx_lawOf rfl _ _ _⟩)))
end

section
abbrev cc_L : Type := List Int32
abbrev cc_S : Type := Int32 × Int32 × cc_L × cc_L × cc_L × cc_L × cc_L × cc_L × cc_L × cc_L × cc_L
/-- an array by its picture: a list of what stands in it, 0 behind the list's end -/
def cc_em : List Int32 → Nat → Int32
  | [], _ => 0
  | x :: _, 0 => x
  | _ :: l, n + 1 => cc_em l n
def cc_st : List Int32 → Nat → Int32 → List Int32
  | [], 0, x => [x]
  | [], n + 1, x => 0 :: cc_st [] n x
  | _ :: l, 0, x => x :: l
  | y :: l, n + 1, x => y :: cc_st l n x
theorem cc_em_st (x : Int32) : ∀ (k : Nat) (l : List Int32) (j : Nat), cc_em (cc_st l k x) j = if j = k then x else cc_em l j := by
  intro k
  induction k with
  | zero =>
    intro l j
    cases l <;> cases j <;> simp [cc_st, cc_em]
  | succ k ih =>
    intro l j
    cases l <;> cases j <;> simp [cc_st, cc_em, ih]
theorem cc_upd (l : List Int32) (k : Nat) (x : Int32) : upd (cc_em l) k x = cc_em (cc_st l k x) := by
  funext j
  exact (cc_em_st x k l j).symm
theorem cc_nil : (fun _ => 0 : Nat → Int32) = cc_em [] := by
  funext j
  cases j <;> rfl
/-- the state that a picture stands for -/
abbrev cc_E (s : cc_S) : St2 := (s.1, s.2.1, cc_em s.2.2.1, cc_em s.2.2.2.1, cc_em s.2.2.2.2.1, cc_em s.2.2.2.2.2.1, cc_em s.2.2.2.2.2.2.1, cc_em s.2.2.2.2.2.2.2.1, cc_em s.2.2.2.2.2.2.2.2.1, cc_em s.2.2.2.2.2.2.2.2.2.1, cc_em s.2.2.2.2.2.2.2.2.2.2)
/-- a run that ends, with an end of which P holds -/
def cc_ok {α : Type} (o : Option α) (P : α → Prop) : Prop := match o with
  | none => False
  | some a => P a
theorem cc_br {α : Type} {c : Prop} [d : Decidable c] {A B : Option α} {P : α → Prop} {X Y : Prop} (h : cc_ok (if c then A else B) P) (f : cc_ok A P → X) (g : cc_ok B P → Y) : (c → X) ∧ (¬ c → Y) := by
  constructor
  · intro hc
    rw [if_pos hc] at h
    exact f h
  · intro hc
    rw [if_neg hc] at h
    exact g h
theorem cc_bv {c : Prop} [d : Decidable c] {a b : Int32} {X Y : Prop} (P : Int32 → Prop) (h : P (if c then a else b)) (f : P a → X) (g : P b → Y) : (c → X) ∧ (¬ c → Y) := by
  constructor
  · intro hc
    rw [if_pos hc] at h
    exact f h
  · intro hc
    rw [if_neg hc] at h
    exact g h
/-- a run that goes on only where x is a place of an array of ten -/
def cc_g {α : Type} (x : Int32) (o : Option α) : Option α := if x < 0 then none else if 10 ≤ x.toNatClampNeg then none else o
theorem cc_gd {α : Type} {x : Int32} {o : Option α} {P : α → Prop} (h : cc_ok (cc_g x o) P) : vp_in x 10 ∧ cc_ok o P := by
  unfold cc_g at h
  by_cases h1 : x < 0
  · rw [if_pos h1] at h
    exact False.elim h
  · rw [if_neg h1] at h
    by_cases h2 : 10 ≤ x.toNatClampNeg
    · rw [if_pos h2] at h
      exact False.elim h
    · rw [if_neg h2] at h
      exact ⟨fun z => z.elim h1 h2, h⟩
theorem cc_bm {α β : Type} {o : Option α} {f : α → Option β} {P : β → Prop} {Q : α → Prop} (h : cc_ok (o.bind f) P) (k : ∀ a, cc_ok (f a) P → Q a) : cc_ok o Q := by
  cases o with
  | none => exact h
  | some a => exact k a h
theorem cc_eq {α : Type} {o : Option α} {a : α} {P : α → Prop} (h : o = some a) (hp : P a) : cc_ok o P := by
  rw [h]
  exact hp
end
section
def cc_load (e : Int32) (b c : cc_L) : Nat → Int32 → cc_L → cc_L → Option (cc_L × cc_L)
  | 0 => fun _ _ _ => none
  | n + 1 => fun x p q => if e ≤ x then some (p, q) else cc_g x (cc_load e b c n (x + 1) (cc_st p x.toNatClampNeg (vp_nar .byte (cc_em b x.toNatClampNeg))) (cc_st q x.toNatClampNeg (vp_nar .byte (cc_em c x.toNatClampNeg))))
theorem cc_load_s {post : St2 → Prop} {e m : Int32} {a1 a2 a3 a4 a7 a8 a9 : cc_L} : ∀ (n : Nat) (x : Int32) (a5 a6 : cc_L), cc_ok (cc_load e a3 a4 n x a5 a6) (fun r => post (e, m, cc_em a1, cc_em a2, cc_em a3, cc_em a4, cc_em r.1, cc_em r.2, cc_em a7, cc_em a8, cc_em a9)) → wX_loadKept_2 post e m n x (cc_em a1) (cc_em a2) (cc_em a3) (cc_em a4) (cc_em a5) (cc_em a6) (cc_em a7) (cc_em a8) (cc_em a9) := by
  intro n
  induction n with
  | zero => exact fun x a5 a6 h => False.elim h
  | succ n ih =>
    intro x a5 a6 h
    refine cc_br h (fun h => h) (fun h => ?_)
    obtain ⟨hx, h⟩ := cc_gd h
    exact ⟨hx, hx, nm_r (cc_upd _ _ _) ⟨hx, hx, nm_r (cc_upd _ _ _) (nm_e (ih _ _ _ h))⟩⟩
theorem cc_store_s {post : St2 → Prop} {e m : Int32} {a1 a2 a5 a6 a7 a8 a9 : cc_L} : ∀ (n : Nat) (x : Int32) (a3 a4 : cc_L), cc_ok (cc_load e a5 a6 n x a3 a4) (fun r => post (e, m, cc_em a1, cc_em a2, cc_em r.1, cc_em r.2, cc_em a5, cc_em a6, cc_em a7, cc_em a8, cc_em a9)) → wX_storeKept_2 post e m n x (cc_em a1) (cc_em a2) (cc_em a3) (cc_em a4) (cc_em a5) (cc_em a6) (cc_em a7) (cc_em a8) (cc_em a9) := by
  intro n
  induction n with
  | zero => exact fun x a3 a4 h => False.elim h
  | succ n ih =>
    intro x a3 a4 h
    refine cc_br h (fun h => h) (fun h => ?_)
    obtain ⟨hx, h⟩ := cc_gd h
    exact ⟨hx, hx, nm_r (cc_upd _ _ _) ⟨hx, hx, nm_r (cc_upd _ _ _) (nm_e (ih _ _ _ h))⟩⟩
def cc_lod (s : cc_S) : Option cc_S := match s with
  | (e, m, a1, a2, a3, a4, a5, a6, a7, a8, a9) => (cc_load e a3 a4 12 0 a5 a6).bind (fun r => some (e, m, a1, a2, a3, a4, r.1, r.2, a7, a8, a9))
theorem cc_lod_s {post : St2 → Prop} (s : cc_S) (h : cc_ok (cc_lod s) (fun s => post (cc_E s))) : wpX_loadKept post (cc_E s) := by
  obtain ⟨e, m, a1, a2, a3, a4, a5, a6, a7, a8, a9⟩ := s
  exact Exists.intro 12 (cc_load_s 12 _ _ _ (cc_bm h (fun r h => h)))
def cc_sto (s : cc_S) : Option cc_S := match s with
  | (e, m, a1, a2, a3, a4, a5, a6, a7, a8, a9) => (cc_load e a5 a6 12 0 a3 a4).bind (fun r => some (e, m, a1, a2, r.1, r.2, a5, a6, a7, a8, a9))
theorem cc_sto_s {post : St2 → Prop} (s : cc_S) (h : cc_ok (cc_sto s) (fun s => post (cc_E s))) : wpX_storeKept post (cc_E s) := by
  obtain ⟨e, m, a1, a2, a3, a4, a5, a6, a7, a8, a9⟩ := s
  exact Exists.intro 12 (cc_store_s 12 _ _ _ (cc_bm h (fun r h => h)))
def cc_tp (x2 : Int32) (a8 : cc_L) : Nat → Int32 → Int32 → cc_L → cc_L → Option (cc_L × cc_L)
  | 0 => fun _ _ _ _ => none
  | n + 1 => fun x3 x4 a5 a6 => if 10 ≤ x4 then some (a5, a6) else cc_g x3 (cc_g (cc_em a8 x3.toNatClampNeg) (if cc_em a8 x3.toNatClampNeg = x2 then some (cc_st a5 (cc_em a8 x3.toNatClampNeg).toNatClampNeg x3.toInt8.toInt32, cc_st a6 x3.toNatClampNeg (cc_em a8 x3.toNatClampNeg).toInt8.toInt32) else cc_tp x2 a8 n (cc_em a5 (cc_em a8 x3.toNatClampNeg).toNatClampNeg) (x4 + 1) (cc_st a5 (cc_em a8 x3.toNatClampNeg).toNatClampNeg x3.toInt8.toInt32) (cc_st a6 x3.toNatClampNeg (cc_em a8 x3.toNatClampNeg).toInt8.toInt32)))
theorem cc_tp_s {post : St2 → Prop} {x2 e m : Int32} {a1 a2 a3 a4 a7 a8 a9 : cc_L} : ∀ (n : Nat) (x3 x4 : Int32) (a5 a6 : cc_L), cc_ok (cc_tp x2 a8 n x3 x4 a5 a6) (fun r => post (e, m, cc_em a1, cc_em a2, cc_em a3, cc_em a4, cc_em r.1, cc_em r.2, cc_em a7, cc_em a8, cc_em a9)) → wX_turnPath_5 post x2 e m n x3 x4 (cc_em a1) (cc_em a2) (cc_em a3) (cc_em a4) (cc_em a5) (cc_em a6) (cc_em a7) (cc_em a8) (cc_em a9) := by
  intro n
  induction n with
  | zero => exact fun x3 x4 a5 a6 h => False.elim h
  | succ n ih =>
    intro x3 x4 a5 a6 h
    refine cc_br h (fun h => h) (fun h => ?_)
    obtain ⟨h3, h⟩ := cc_gd h
    obtain ⟨h5, h⟩ := cc_gd h
    exact ⟨h3, nm_e ⟨h5, nm_e ⟨h5, nm_r (cc_upd _ _ _) ⟨h3, nm_r (cc_upd _ _ _) (cc_br h (fun h => h) (fun h => nm_e (ih _ _ _ _ h)))⟩⟩⟩⟩
abbrev cc_R : Type := Int32 × cc_L × cc_L × cc_L × cc_L
def cc_a37 (J : Int32 → Int32 → Int32 → cc_L → cc_L → Option cc_R) (x1 x2 x5 x6 e : Int32) (a2 a5 a6 : cc_L) : Nat → Int32 → Int32 → Int32 → cc_L → cc_L → Option cc_R
  | 0 => fun _ _ _ _ _ => none
  | n + 1 => fun x3 x4 x7 a7 a8 =>
    if e ≤ x7 then J x3 x4 (x5 + 1) a7 a8 else
    cc_g x6 (if ((((cc_em a2 x6.toNatClampNeg) &&& x2) &&& (x4 ^^^ (-1))) >>> (x7 &&& 31)) = 0 then J x3 x4 (x5 + 1) a7 a8 else
    if ((((cc_em a2 x6.toNatClampNeg) &&& x2) &&& (x4 ^^^ (-1))) &&& ((1 : Int32) <<< (x7 &&& 31))) = 0 then cc_a37 J x1 x2 x5 x6 e a2 a5 a6 n x3 x4 (x7 + 1) a7 a8 else
    cc_g x7 (if 0 ≤ cc_em a6 x7.toNatClampNeg then cc_g x3 (cc_a37 J x1 x2 x5 x6 e a2 a5 a6 n (x3 + 1) (x4 ||| ((1 : Int32) <<< (x7 &&& 31))) (x7 + 1) (cc_st a7 x3.toNatClampNeg (vp_nar .byte (cc_em a6 x7.toNatClampNeg))) (cc_st a8 x7.toNatClampNeg x6.toInt8.toInt32)) else
    (cc_tp x1 (cc_st a8 x7.toNatClampNeg x6.toInt8.toInt32) 12 x7 0 a5 a6).bind (fun r => some (1, r.1, r.2, a7, cc_st a8 x7.toNatClampNeg x6.toInt8.toInt32))))
theorem cc_a37_s {post : Int32 → St2 → Prop} {J : Int32 → Int32 → Int32 → cc_L → cc_L → Option cc_R} {J16 : Int32 → Int32 → Int32 → (Nat → Int32) → (Nat → Int32) → (Nat → Int32) → (Nat → Int32) → (Nat → Int32) → (Nat → Int32) → (Nat → Int32) → (Nat → Int32) → (Nat → Int32) → Prop} {x1 x2 x5 x6 e m : Int32} {a1 a2 a3 a4 a5 a6 a9 : cc_L} (hJ : ∀ (x3 x4 x5 : Int32) (a7 a8 : cc_L), cc_ok (J x3 x4 x5 a7 a8) (fun r => post r.1 (e, m, cc_em a1, cc_em a2, cc_em a3, cc_em a4, cc_em r.2.1, cc_em r.2.2.1, cc_em r.2.2.2.1, cc_em r.2.2.2.2, cc_em a9)) → J16 x3 x4 x5 (cc_em a1) (cc_em a2) (cc_em a3) (cc_em a4) (cc_em a5) (cc_em a6) (cc_em a7) (cc_em a8) (cc_em a9)) : ∀ (n : Nat) (x3 x4 x7 : Int32) (a7 a8 : cc_L), cc_ok (cc_a37 J x1 x2 x5 x6 e a2 a5 a6 n x3 x4 x7 a7 a8) (fun r => post r.1 (e, m, cc_em a1, cc_em a2, cc_em a3, cc_em a4, cc_em r.2.1, cc_em r.2.2.1, cc_em r.2.2.2.1, cc_em r.2.2.2.2, cc_em a9)) → wX_augment_37 post J16 x1 x2 x5 x6 e m n x3 x4 x7 (cc_em a1) (cc_em a2) (cc_em a3) (cc_em a4) (cc_em a5) (cc_em a6) (cc_em a7) (cc_em a8) (cc_em a9) := by
  intro n
  induction n with
  | zero => exact fun x3 x4 x7 a7 a8 h => False.elim h
  | succ n ih =>
    intro x3 x4 x7 a7 a8 h
    refine cc_br h (fun h => nm_e (hJ _ _ _ _ _ h)) (fun h => ?_)
    obtain ⟨h6, h⟩ := cc_gd h
    refine ⟨h6, cc_br h (fun h => nm_e (hJ _ _ _ _ _ h)) (fun h => ⟨h6, cc_br h (fun h => nm_e (ih _ _ _ _ _ h)) (fun h => ?_)⟩)⟩
    obtain ⟨h7, h⟩ := cc_gd h
    refine nm_e ⟨h7, nm_r (cc_upd _ _ _) ⟨h7, cc_br h (fun h => ?_) (fun h => ?_)⟩⟩
    · obtain ⟨h3, h⟩ := cc_gd h
      exact ⟨h7, h3, nm_r (cc_upd _ _ _) (nm_e (nm_e (ih _ _ _ _ _ h)))⟩
    · exact Exists.intro 12 (cc_tp_s 12 _ _ _ _ (cc_bm h (fun r h => h)))
def cc_a16 (x1 x2 e : Int32) (a2 a5 a6 : cc_L) : Nat → Int32 → Int32 → Int32 → cc_L → cc_L → Option cc_R
  | 0 => fun _ _ _ _ _ => none
  | n + 1 => fun x3 x4 x5 a7 a8 => if x3 ≤ x5 then some (0, a5, a6, a7, a8) else cc_g x5 (cc_a37 (cc_a16 x1 x2 e a2 a5 a6 n) x1 x2 x5 (cc_em a7 x5.toNatClampNeg) e a2 a5 a6 12 x3 x4 (cc_em a7 x5.toNatClampNeg + 1) a7 a8)
theorem cc_a16_s {post : Int32 → St2 → Prop} {x1 x2 e m : Int32} {a1 a2 a3 a4 a5 a6 a9 : cc_L} : ∀ (n : Nat) (x3 x4 x5 : Int32) (a7 a8 : cc_L), cc_ok (cc_a16 x1 x2 e a2 a5 a6 n x3 x4 x5 a7 a8) (fun r => post r.1 (e, m, cc_em a1, cc_em a2, cc_em a3, cc_em a4, cc_em r.2.1, cc_em r.2.2.1, cc_em r.2.2.2.1, cc_em r.2.2.2.2, cc_em a9)) → wX_augment_16 post x1 x2 e m n x3 x4 x5 (cc_em a1) (cc_em a2) (cc_em a3) (cc_em a4) (cc_em a5) (cc_em a6) (cc_em a7) (cc_em a8) (cc_em a9) := by
  intro n
  induction n with
  | zero => exact fun x3 x4 x5 a7 a8 h => False.elim h
  | succ n ih =>
    intro x3 x4 x5 a7 a8 h
    refine cc_br h (fun h => h) (fun h => ?_)
    obtain ⟨h5, h⟩ := cc_gd h
    exact ⟨h5, nm_e (nm_e (Exists.intro 12 (cc_a37_s ih 12 _ _ _ _ _ h)))⟩
def cc_aug (s : cc_S) (p0 p1 : Int32) : Option (Int32 × cc_S) := match s with
  | (e, m, a1, a2, a3, a4, a5, a6, a7, a8, a9) => (cc_a16 p0 p1 e a2 a5 a6 12 1 0 0 (cc_st a7 0 p0.toInt8.toInt32) a8).bind (fun r => some (r.1, (e, m, a1, a2, a3, a4, r.2.1, r.2.2.1, r.2.2.2.1, r.2.2.2.2, a9)))
theorem cc_aug_s {post : Int32 → St2 → Prop} (s : cc_S) (p0 p1 : Int32) (h : cc_ok (cc_aug s p0 p1) (fun r => post r.1 (cc_E r.2))) : wpX_augment post (cc_E s) p0 p1 := by
  obtain ⟨e, m, a1, a2, a3, a4, a5, a6, a7, a8, a9⟩ := s
  intro b7 e7
  subst e7
  refine Exists.intro 12 ?_
  have t := cc_a16_s (post := post) (m := m) (a1 := a1) (a3 := a3) (a4 := a4) (a9 := a9) 12 1 0 0 (cc_st a7 0 p0.toInt8.toInt32) a8 (cc_bm h (fun r h => h))
  rw [← cc_upd] at t
  exact t
end
section
def cc_m17 (x1 : Int32) : Nat → Int32 → Int32 → cc_S → Option cc_S
  | 0 => fun _ _ _ => none
  | n + 1 => fun x2 x3 s => if s.1 ≤ x3 then cc_sto s else if x2 = 0 then cc_g x3 (if 0 ≤ cc_em s.2.2.2.2.2.2.1 x3.toNatClampNeg then cc_m17 x1 n x2 (x3 + 1) s else (cc_aug s x3 x1).bind (fun r => cc_m17 x1 n r.1 (x3 + 1) r.2)) else cc_sto s
theorem cc_m17_s {post : St2 → Prop} {x1 : Int32} : ∀ (n : Nat) (x2 x3 : Int32) (s : cc_S), cc_ok (cc_m17 x1 n x2 x3 s) (fun s => post (cc_E s)) → wX_matchOneMore_17 post x1 n x2 x3 s.1 s.2.1 (cc_em s.2.2.1) (cc_em s.2.2.2.1) (cc_em s.2.2.2.2.1) (cc_em s.2.2.2.2.2.1) (cc_em s.2.2.2.2.2.2.1) (cc_em s.2.2.2.2.2.2.2.1) (cc_em s.2.2.2.2.2.2.2.2.1) (cc_em s.2.2.2.2.2.2.2.2.2.1) (cc_em s.2.2.2.2.2.2.2.2.2.2) := by
  intro n
  induction n with
  | zero => exact fun x2 x3 s h => False.elim h
  | succ n ih =>
    intro x2 x3 s h
    refine cc_br h (fun h => cc_sto_s s h) (fun h => cc_br h (fun h => ?_) (fun h => cc_sto_s s h))
    obtain ⟨h3, h⟩ := cc_gd h
    exact ⟨h3, cc_br h (fun h => nm_e (ih _ _ s h)) (fun h => cc_aug_s s _ _ (cc_bm h (fun r h => nm_e (ih _ _ r.2 h))))⟩
def cc_mom (s : cc_S) : Option cc_S := (cc_lod s).bind (fun s => cc_m17 (((1 : Int32) <<< (s.1 &&& 31)) - 1) 12 0 0 s)
theorem cc_mom_s {post : St2 → Prop} (s : cc_S) (h : cc_ok (cc_mom s) (fun s => post (cc_E s))) : wpX_matchOneMore post (cc_E s) :=
  cc_lod_s s (cc_bm h (fun r h => nm_e (Exists.intro 12 (cc_m17_s 12 _ _ r h))))
def cc_a80 (x2 x3 e m : Int32) (a1 a3 a4 a5 a6 a7 a8 a9 : cc_L) : Nat → Int32 → cc_L → Option (Int32 × cc_S)
  | 0 => fun _ _ => none
  | n + 1 => fun x4 a2 => if x2 ≤ x4 then cc_g x2 (if m = 0 then some (e + 1, (e + 1, m, a1, a2, cc_st (a3) (x2.toNatClampNeg) (-1), cc_st (a4) (x2.toNatClampNeg) (-1), a5, a6, a7, a8, a9)) else (cc_mom (e + 1, m, a1, a2, cc_st (a3) (x2.toNatClampNeg) (-1), cc_st (a4) (x2.toNatClampNeg) (-1), a5, a6, a7, a8, a9)).bind (fun s => some (s.1, s))) else
    if ((x3 >>> (x4 &&& 31)) &&& 1) = 0 then cc_a80 x2 x3 e m a1 a3 a4 a5 a6 a7 a8 a9 n (x4 + 1) a2 else cc_g x4 (cc_a80 x2 x3 e m a1 a3 a4 a5 a6 a7 a8 a9 n (x4 + 1) (cc_st a2 x4.toNatClampNeg ((cc_em a2 x4.toNatClampNeg) ||| ((1 : Int32) <<< (x2 &&& 31)))))
theorem cc_a80_s {post : Int32 → St2 → Prop} {x2 x3 e m : Int32} {a1 a3 a4 a5 a6 a7 a8 a9 : cc_L} : ∀ (n : Nat) (x4 : Int32) (a2 : cc_L), cc_ok (cc_a80 x2 x3 e m a1 a3 a4 a5 a6 a7 a8 a9 n x4 a2) (fun r => post r.1 (cc_E r.2)) → wX_add_80 post x2 x3 e m n x4 (cc_em a1) (cc_em a2) (cc_em a3) (cc_em a4) (cc_em a5) (cc_em a6) (cc_em a7) (cc_em a8) (cc_em a9) := by
  intro n
  induction n with
  | zero => exact fun x4 a2 h => False.elim h
  | succ n ih =>
    intro x4 a2 h
    refine cc_br h (fun h => ?_) (fun h => cc_br h (fun h => nm_e (ih _ _ h)) (fun h => ?_))
    · obtain ⟨h2, h⟩ := cc_gd h
      refine ⟨h2, nm_r (cc_upd _ _ _) ⟨h2, nm_r (cc_upd _ _ _) (nm_e (cc_br h (fun h => h) (fun h => ?_)))⟩⟩
      exact cc_mom_s (e + 1, m, a1, a2, cc_st (a3) (x2.toNatClampNeg) (-1), cc_st (a4) (x2.toNatClampNeg) (-1), a5, a6, a7, a8, a9) (cc_bm h (fun s h => h))
    · obtain ⟨h4, h⟩ := cc_gd h
      exact ⟨h4, h4, nm_r (cc_upd _ _ _) (nm_e (ih _ _ h))⟩
def cc_a32 (x1 x2 e m : Int32) (a1 a2 a3 a4 a5 a6 a7 a8 a9 : cc_L) : Nat → Int32 → Int32 → Option (Int32 × cc_S)
  | 0 => fun _ _ => none
  | n + 1 => fun x3 x4 => if x2 ≤ x4 then cc_g x2 (cc_a80 x2 x3 e m (cc_st a1 x2.toNatClampNeg x3) a3 a4 a5 a6 a7 a8 a9 12 0 (cc_st a2 x2.toNatClampNeg 0)) else if ((x1 >>> (x4 &&& 31)) &&& 1) = 0 then cc_a32 x1 x2 e m a1 a2 a3 a4 a5 a6 a7 a8 a9 n x3 (x4 + 1) else cc_g x4 (cc_a32 x1 x2 e m a1 a2 a3 a4 a5 a6 a7 a8 a9 n (x3 ||| (cc_em a1 x4.toNatClampNeg)) (x4 + 1))
theorem cc_a32_s {post : Int32 → St2 → Prop} {x1 x2 e m : Int32} {a1 a2 a3 a4 a5 a6 a7 a8 a9 : cc_L} : ∀ (n : Nat) (x3 x4 : Int32), cc_ok (cc_a32 x1 x2 e m a1 a2 a3 a4 a5 a6 a7 a8 a9 n x3 x4) (fun r => post r.1 (cc_E r.2)) → wX_add_32 post x1 x2 e m (cc_em a1) (cc_em a2) (cc_em a3) (cc_em a4) (cc_em a5) (cc_em a6) (cc_em a7) (cc_em a8) (cc_em a9) n x3 x4 := by
  intro n
  induction n with
  | zero => exact fun x3 x4 h => False.elim h
  | succ n ih =>
    intro x3 x4 h
    refine cc_br h (fun h => ?_) (fun h => cc_br h (fun h => nm_e (ih _ _ h)) (fun h => ?_))
    · obtain ⟨h2, h⟩ := cc_gd h
      exact ⟨h2, nm_r (cc_upd _ _ _) ⟨h2, nm_r (cc_upd _ _ _) (Exists.intro 12 (cc_a80_s 12 _ _ h))⟩⟩
    · obtain ⟨h4, h⟩ := cc_gd h
      exact ⟨h4, nm_e (nm_e (ih _ _ h))⟩
def cc_iss (e p : Int32) : Int32 := if p < 0 then 0 else if ((1 : Int32) <<< (e &&& 31)) ≤ p then 0 else 1
theorem cc_iss_s {post : Int32 → Prop} {s : cc_S} {p : Int32} (h : post (cc_iss s.1 p)) : wpX_isSet post (cc_E s) p :=
  cc_bv post h (fun h => h) (fun h => cc_bv post h (fun h => h) (fun h => h))
def cc_ise (e p : Int32) : Int32 := if p < 0 then 0 else if e ≤ p then 0 else 1
theorem cc_ise_s {post : Int32 → Prop} {s : cc_S} {p : Int32} (h : post (cc_ise s.1 p)) : wpX_isElement post (cc_E s) p :=
  cc_bv post h (fun h => h) (fun h => cc_bv post h (fun h => h) (fun h => h))
def cc_add (s : cc_S) (p : Int32) : Option (Int32 × cc_S) := if s.1 < 10 then (if cc_iss s.1 p = 0 then some (-1, s) else cc_a32 p s.1 s.1 s.2.1 s.2.2.1 s.2.2.2.1 s.2.2.2.2.1 s.2.2.2.2.2.1 s.2.2.2.2.2.2.1 s.2.2.2.2.2.2.2.1 s.2.2.2.2.2.2.2.2.1 s.2.2.2.2.2.2.2.2.2.1 s.2.2.2.2.2.2.2.2.2.2 12 p 0) else some (-2, s)
theorem cc_add_s {post : Int32 → St2 → Prop} (s : cc_S) (p : Int32) (h : cc_ok (cc_add s p) (fun r => post r.1 (cc_E r.2))) : wpX_add post (cc_E s) p :=
  cc_br h (fun h => cc_iss_s (s := s) (cc_br h (fun h => h) (fun h => Exists.intro 12 (cc_a32_s 12 _ _ h)))) (fun h => h)
end
section
def cc_b4 (x1 : Int32) : Nat → Int32 → Int32 → Option Int32
  | 0 => fun _ _ => none
  | n + 1 => fun x2 x3 => if 10 ≤ x3 then some x2 else cc_b4 x1 n (x2 + ((x1 >>> (x3 &&& 31)) &&& 1)) (x3 + 1)
theorem cc_b4_s {post : Int32 → Prop} {x1 : Int32} {s : cc_S} : ∀ (n : Nat) (x2 x3 : Int32), cc_ok (cc_b4 x1 n x2 x3) (fun r => post r) → wX_bitsIn_4 post x1 s.1 s.2.1 (cc_em s.2.2.1) (cc_em s.2.2.2.1) (cc_em s.2.2.2.2.1) (cc_em s.2.2.2.2.2.1) (cc_em s.2.2.2.2.2.2.1) (cc_em s.2.2.2.2.2.2.2.1) (cc_em s.2.2.2.2.2.2.2.2.1) (cc_em s.2.2.2.2.2.2.2.2.2.1) (cc_em s.2.2.2.2.2.2.2.2.2.2) n x2 x3 := by
  intro n
  induction n with
  | zero => exact fun x2 x3 h => False.elim h
  | succ n ih =>
    intro x2 x3 h
    exact cc_br h (fun h => h) (fun h => nm_e (nm_e (ih _ _ h)))
theorem cc_bits_s {post : Int32 → Prop} {s : cc_S} {p : Int32} (h : cc_ok (cc_b4 p 12 0 0) (fun r => post r)) : wpX_bitsIn post (cc_E s) p :=
  Exists.intro 12 (cc_b4_s (s := s) 12 _ _ h)
def cc_p32 (x1 : Int32) : Nat → Int32 → cc_S → Option cc_S
  | 0 => fun _ _ => none
  | n + 1 => fun x2 s => if s.1 ≤ x2 then some s else if ((x1 >>> (x2 &&& 31)) &&& 1) = 0 then cc_p32 x1 n (x2 + 1) s else (cc_aug s x2 x1).bind (fun r => cc_p32 x1 n (x2 + 1) r.2)
theorem cc_p32_s {post : St2 → Prop} {x1 : Int32} : ∀ (n : Nat) (x2 : Int32) (s : cc_S), cc_ok (cc_p32 x1 n x2 s) (fun s => post (cc_E s)) → wX_pairUp_32 post x1 n x2 s.1 s.2.1 (cc_em s.2.2.1) (cc_em s.2.2.2.1) (cc_em s.2.2.2.2.1) (cc_em s.2.2.2.2.2.1) (cc_em s.2.2.2.2.2.2.1) (cc_em s.2.2.2.2.2.2.2.1) (cc_em s.2.2.2.2.2.2.2.2.1) (cc_em s.2.2.2.2.2.2.2.2.2.1) (cc_em s.2.2.2.2.2.2.2.2.2.2) := by
  intro n
  induction n with
  | zero => exact fun x2 s h => False.elim h
  | succ n ih =>
    intro x2 s h
    exact cc_br h (fun h => h) (fun h => cc_br h (fun h => nm_e (ih _ s h)) (fun h => cc_aug_s s _ _ (cc_bm h (fun r h => nm_e (ih _ r.2 h)))))
def cc_p2 (x1 e m : Int32) (a1 a2 a3 a4 a7 a8 a9 : cc_L) : Nat → Int32 → cc_L → cc_L → Option cc_S
  | 0 => fun _ _ _ => none
  | n + 1 => fun x2 a5 a6 => if e ≤ x2 then cc_p32 x1 12 0 (e, m, a1, a2, a3, a4, a5, a6, a7, a8, a9) else cc_g x2 (cc_p2 x1 e m a1 a2 a3 a4 a7 a8 a9 n (x2 + 1) (cc_st a5 x2.toNatClampNeg (-1)) (cc_st a6 x2.toNatClampNeg (-1)))
theorem cc_p2_s {post : St2 → Prop} {x1 e m : Int32} {a1 a2 a3 a4 a7 a8 a9 : cc_L} : ∀ (n : Nat) (x2 : Int32) (a5 a6 : cc_L), cc_ok (cc_p2 x1 e m a1 a2 a3 a4 a7 a8 a9 n x2 a5 a6) (fun s => post (cc_E s)) → wX_pairUp_2 post x1 e m n x2 (cc_em a1) (cc_em a2) (cc_em a3) (cc_em a4) (cc_em a5) (cc_em a6) (cc_em a7) (cc_em a8) (cc_em a9) := by
  intro n
  induction n with
  | zero => exact fun x2 a5 a6 h => False.elim h
  | succ n ih =>
    intro x2 a5 a6 h
    refine cc_br h (fun h => Exists.intro 12 (cc_p32_s 12 _ (e, m, a1, a2, a3, a4, a5, a6, a7, a8, a9) h)) (fun h => ?_)
    obtain ⟨h2, h⟩ := cc_gd h
    exact ⟨h2, nm_r (cc_upd _ _ _) ⟨h2, nm_r (cc_upd _ _ _) (nm_e (ih _ _ _ h))⟩⟩
def cc_pu (s : cc_S) (p : Int32) : Option cc_S := match s with
  | (e, m, a1, a2, a3, a4, a5, a6, a7, a8, a9) => cc_p2 p e m a1 a2 a3 a4 a7 a8 a9 12 0 a5 a6
theorem cc_pu_s {post : St2 → Prop} (s : cc_S) (p : Int32) (h : cc_ok (cc_pu s p) (fun s => post (cc_E s))) : wpX_pairUp post (cc_E s) p := by
  obtain ⟨e, m, a1, a2, a3, a4, a5, a6, a7, a8, a9⟩ := s
  exact Exists.intro 12 (cc_p2_s 12 _ _ _ h)
def cc_mall (s : cc_S) : Option cc_S := if s.2.1 = 0 then (cc_pu s (((1 : Int32) <<< (s.1 &&& 31)) - 1)).bind (fun s => (cc_sto s).bind (fun s => some (s.1, 1, s.2.2))) else cc_lod s
theorem cc_mall_s {post : St2 → Prop} (s : cc_S) (h : cc_ok (cc_mall s) (fun s => post (cc_E s))) : wpX_matchAll post (cc_E s) :=
  cc_br h (fun h => cc_pu_s s _ (cc_bm h (fun r h => cc_sto_s r (cc_bm h (fun q h => h))))) (fun h => cc_lod_s s h)
def cc_c28 (e : Int32) (a5 : cc_L) : Nat → Int32 → Int32 → Option Int32
  | 0 => fun _ _ => none
  | n + 1 => fun x2 x3 => if e ≤ x3 then some x2 else cc_g x3 (if cc_em a5 x3.toNatClampNeg < 0 then cc_c28 e a5 n x2 (x3 + 1) else cc_c28 e a5 n (x2 + 1) (x3 + 1))
theorem cc_c28_s {post : Int32 → St2 → Prop} {s : cc_S} : ∀ (n : Nat) (x2 x3 : Int32), cc_ok (cc_c28 s.1 s.2.2.2.2.2.2.1 n x2 x3) (fun r => post r (cc_E s)) → wX_couplesWithin_28 post s.1 s.2.1 (cc_em s.2.2.1) (cc_em s.2.2.2.1) (cc_em s.2.2.2.2.1) (cc_em s.2.2.2.2.2.1) (cc_em s.2.2.2.2.2.2.1) (cc_em s.2.2.2.2.2.2.2.1) (cc_em s.2.2.2.2.2.2.2.2.1) (cc_em s.2.2.2.2.2.2.2.2.2.1) (cc_em s.2.2.2.2.2.2.2.2.2.2) n x2 x3 := by
  intro n
  induction n with
  | zero => exact fun x2 x3 h => False.elim h
  | succ n ih =>
    intro x2 x3 h
    refine cc_br h (fun h => h) (fun h => ?_)
    obtain ⟨h3, h⟩ := cc_gd h
    exact ⟨h3, cc_br h (fun h => nm_e (ih _ _ h)) (fun h => nm_e (nm_e (ih _ _ h)))⟩
def cc_cw2 (s : cc_S) : Option (Int32 × cc_S) := (cc_c28 s.1 s.2.2.2.2.2.2.1 12 0 0).bind (fun r => some (r, s))
def cc_cw (s : cc_S) (p : Int32) : Option (Int32 × cc_S) := if p = (((1 : Int32) <<< (s.1 &&& 31)) - 1) then (cc_mall s).bind cc_cw2 else (cc_pu s p).bind cc_cw2
theorem cc_cw_s {post : Int32 → St2 → Prop} (s : cc_S) (p : Int32) (h : cc_ok (cc_cw s p) (fun r => post r.1 (cc_E r.2))) : wpX_couplesWithin post (cc_E s) p :=
  cc_br h (fun h => cc_mall_s s (cc_bm h (fun q h => Exists.intro 12 (cc_c28_s (s := q) 12 _ _ (cc_bm h (fun r h => h)))))) (fun h => cc_pu_s s _ (cc_bm h (fun q h => Exists.intro 12 (cc_c28_s (s := q) 12 _ _ (cc_bm h (fun r h => h))))))
def cc_wid (s : cc_S) (p : Int32) : Option (Int32 × cc_S) := if cc_iss s.1 p = 0 then some (-1, s) else (cc_b4 p 12 0 0).bind (fun b => (cc_cw s p).bind (fun r => some (b - r.1, r.2)))
theorem cc_wid_s {post : Int32 → St2 → Prop} (s : cc_S) (p : Int32) (h : cc_ok (cc_wid s p) (fun r => post r.1 (cc_E r.2))) : wpX_width post (cc_E s) p := by
  unfold wpX_width
  dsimp only [cc_E]
  exact cc_iss_s (s := s) (cc_br h (fun h => h) (fun h => cc_bits_s (s := s) (cc_bm h (fun b h => cc_cw_s s p (cc_bm h (fun r h => h))))))
def cc_w80 (J : Int32 → Int32 → Int32 → Option Int32) (b : cc_L) (x1 x2 x4 : Int32) : Option Int32 := if ((x2 >>> (x4 &&& 31)) &&& 1) = 0 then J x1 x2 (x4 + 1) else cc_g x4 (if cc_em b x4.toNatClampNeg < 0 then J x1 x2 (x4 + 1) else J (x1 ||| ((1 : Int32) <<< ((cc_em b x4.toNatClampNeg) &&& 31))) x2 (x4 + 1))
def cc_w52 (J : Int32 → Int32 → Int32 → Option Int32) (x3 e : Int32) (c b : cc_L) : Nat → Int32 → Int32 → Int32 → Option Int32
  | 0 => fun _ _ _ => none
  | n + 1 => fun x1 x2 x4 => if e ≤ x4 then J x1 x2 (x3 + 1) else if ((x1 >>> (x4 &&& 31)) &&& 1) = 0 then cc_w80 (cc_w52 J x3 e c b n) b x1 x2 x4 else cc_g x4 (cc_w80 (cc_w52 J x3 e c b n) b x1 (x2 ||| (cc_em c x4.toNatClampNeg)) x4)
def cc_w41 (e : Int32) (c b : cc_L) : Nat → Int32 → Int32 → Int32 → Option Int32
  | 0 => fun _ _ _ => none
  | n + 1 => fun x1 x2 x3 => if e < x3 then some (x1 &&& (x2 ^^^ (-1))) else cc_w52 (cc_w41 e c b n) x3 e c b 12 x1 x2 0
def cc_w8 (e : Int32) (c b d : cc_L) : Nat → Int32 → Int32 → Option Int32
  | 0 => fun _ _ => none
  | n + 1 => fun x1 x2 => if e ≤ x2 then cc_w41 e c b 12 x1 0 0 else cc_g x2 (if 0 ≤ cc_em d x2.toNatClampNeg then cc_w8 e c b d n x1 (x2 + 1) else cc_w8 e c b d n (x1 ||| ((1 : Int32) <<< (x2 &&& 31))) (x2 + 1))
theorem cc_lowest80 {post : Int32 → St2 → Prop} {J41 J52 : Int32 → Int32 → Int32 → Prop} {J : Int32 → Int32 → Int32 → Option Int32} {P : Int32 → Prop} {s : cc_S} (hJ : ∀ x1 x2 x4 : Int32, cc_ok (J x1 x2 x4) P → J52 x1 x2 x4) (x1 x2 x3 x4 : Int32) (h : cc_ok (cc_w80 J s.2.2.2.2.2.2.1 x1 x2 x4) P) : wX_lowest_80 post J41 J52 x1 x2 x3 x4 s.1 s.2.1 (cc_em s.2.2.1) (cc_em s.2.2.2.1) (cc_em s.2.2.2.2.1) (cc_em s.2.2.2.2.2.1) (cc_em s.2.2.2.2.2.2.1) (cc_em s.2.2.2.2.2.2.2.1) (cc_em s.2.2.2.2.2.2.2.2.1) (cc_em s.2.2.2.2.2.2.2.2.2.1) (cc_em s.2.2.2.2.2.2.2.2.2.2) := by
  refine cc_br h (fun h => nm_e (hJ _ _ _ h)) (fun h => ?_)
  obtain ⟨h4, h⟩ := cc_gd h
  exact ⟨h4, cc_br h (fun h => nm_e (hJ _ _ _ h)) (fun h => ⟨h4, nm_e (nm_e (hJ _ _ _ h))⟩)⟩
theorem cc_lowest52 {post : Int32 → St2 → Prop} {J41 : Int32 → Int32 → Int32 → Prop} {J : Int32 → Int32 → Int32 → Option Int32} {P : Int32 → Prop} {s : cc_S} {x3 : Int32} (hJ : ∀ x1 x2 x3 : Int32, cc_ok (J x1 x2 x3) P → J41 x1 x2 x3) : ∀ (n : Nat) (x1 x2 x4 : Int32), cc_ok (cc_w52 J x3 s.1 s.2.2.1 s.2.2.2.2.2.2.1 n x1 x2 x4) P → wX_lowest_52 post J41 x3 s.1 s.2.1 (cc_em s.2.2.1) (cc_em s.2.2.2.1) (cc_em s.2.2.2.2.1) (cc_em s.2.2.2.2.2.1) (cc_em s.2.2.2.2.2.2.1) (cc_em s.2.2.2.2.2.2.2.1) (cc_em s.2.2.2.2.2.2.2.2.1) (cc_em s.2.2.2.2.2.2.2.2.2.1) (cc_em s.2.2.2.2.2.2.2.2.2.2) n x1 x2 x4 := by
  intro n
  induction n with
  | zero => exact fun x1 x2 x4 h => False.elim h
  | succ n ih =>
    intro x1 x2 x4 h
    refine cc_br h (fun h => nm_e (hJ _ _ _ h)) (fun h => cc_br h (fun h => cc_lowest80 ih _ _ _ _ h) (fun h => ?_))
    obtain ⟨h4, h⟩ := cc_gd h
    exact ⟨h4, nm_e (cc_lowest80 ih _ _ _ _ h)⟩
theorem cc_lowest41 {post : Int32 → St2 → Prop} {s : cc_S} : ∀ (n : Nat) (x1 x2 x3 : Int32), cc_ok (cc_w41 s.1 s.2.2.1 s.2.2.2.2.2.2.1 n x1 x2 x3) (fun r => post r (cc_E s)) → wX_lowest_41 post s.1 s.2.1 (cc_em s.2.2.1) (cc_em s.2.2.2.1) (cc_em s.2.2.2.2.1) (cc_em s.2.2.2.2.2.1) (cc_em s.2.2.2.2.2.2.1) (cc_em s.2.2.2.2.2.2.2.1) (cc_em s.2.2.2.2.2.2.2.2.1) (cc_em s.2.2.2.2.2.2.2.2.2.1) (cc_em s.2.2.2.2.2.2.2.2.2.2) n x1 x2 x3 := by
  intro n
  induction n with
  | zero => exact fun x1 x2 x3 h => False.elim h
  | succ n ih =>
    intro x1 x2 x3 h
    exact cc_br h (fun h => h) (fun h => Exists.intro 12 (cc_lowest52 ih 12 _ _ _ h))
theorem cc_lowest8 {post : Int32 → St2 → Prop} {s : cc_S} : ∀ (n : Nat) (x1 x2 : Int32), cc_ok (cc_w8 s.1 s.2.2.1 s.2.2.2.2.2.2.1 s.2.2.2.2.2.2.2.1 n x1 x2) (fun r => post r (cc_E s)) → wX_lowest_8 post s.1 s.2.1 (cc_em s.2.2.1) (cc_em s.2.2.2.1) (cc_em s.2.2.2.2.1) (cc_em s.2.2.2.2.2.1) (cc_em s.2.2.2.2.2.2.1) (cc_em s.2.2.2.2.2.2.2.1) (cc_em s.2.2.2.2.2.2.2.2.1) (cc_em s.2.2.2.2.2.2.2.2.2.1) (cc_em s.2.2.2.2.2.2.2.2.2.2) n x1 x2 := by
  intro n
  induction n with
  | zero => exact fun x1 x2 h => False.elim h
  | succ n ih =>
    intro x1 x2 h
    refine cc_br h (fun h => Exists.intro 12 (cc_lowest41 (s := s) 12 _ _ _ h)) (fun h => ?_)
    obtain ⟨h2, h⟩ := cc_gd h
    exact ⟨h2, cc_br h (fun h => nm_e (ih _ _ h)) (fun h => nm_e (nm_e (ih _ _ h)))⟩
def cc_lowest (s : cc_S) : Option (Int32 × cc_S) := (cc_mall s).bind (fun s => (cc_w8 s.1 s.2.2.1 s.2.2.2.2.2.2.1 s.2.2.2.2.2.2.2.1 12 0 0).bind (fun r => some (r, s)))
theorem cc_lowest_s {post : Int32 → St2 → Prop} (s : cc_S) (h : cc_ok (cc_lowest s) (fun r => post r.1 (cc_E r.2))) : wpX_lowest post (cc_E s) := by
  unfold wpX_lowest
  dsimp only [cc_E]
  exact cc_mall_s s (cc_bm h (fun q h => Exists.intro 12 (cc_lowest8 (s := q) 12 _ _ (cc_bm h (fun r h => h)))))
theorem cc_highest80 {post : Int32 → St2 → Prop} {J41 J52 : Int32 → Int32 → Int32 → Prop} {J : Int32 → Int32 → Int32 → Option Int32} {P : Int32 → Prop} {s : cc_S} (hJ : ∀ x1 x2 x4 : Int32, cc_ok (J x1 x2 x4) P → J52 x1 x2 x4) (x1 x2 x3 x4 : Int32) (h : cc_ok (cc_w80 J s.2.2.2.2.2.2.2.1 x1 x2 x4) P) : wX_highest_80 post J41 J52 x1 x2 x3 x4 s.1 s.2.1 (cc_em s.2.2.1) (cc_em s.2.2.2.1) (cc_em s.2.2.2.2.1) (cc_em s.2.2.2.2.2.1) (cc_em s.2.2.2.2.2.2.1) (cc_em s.2.2.2.2.2.2.2.1) (cc_em s.2.2.2.2.2.2.2.2.1) (cc_em s.2.2.2.2.2.2.2.2.2.1) (cc_em s.2.2.2.2.2.2.2.2.2.2) := by
  refine cc_br h (fun h => nm_e (hJ _ _ _ h)) (fun h => ?_)
  obtain ⟨h4, h⟩ := cc_gd h
  exact ⟨h4, cc_br h (fun h => nm_e (hJ _ _ _ h)) (fun h => ⟨h4, nm_e (nm_e (hJ _ _ _ h))⟩)⟩
theorem cc_highest52 {post : Int32 → St2 → Prop} {J41 : Int32 → Int32 → Int32 → Prop} {J : Int32 → Int32 → Int32 → Option Int32} {P : Int32 → Prop} {s : cc_S} {x3 : Int32} (hJ : ∀ x1 x2 x3 : Int32, cc_ok (J x1 x2 x3) P → J41 x1 x2 x3) : ∀ (n : Nat) (x1 x2 x4 : Int32), cc_ok (cc_w52 J x3 s.1 s.2.2.2.1 s.2.2.2.2.2.2.2.1 n x1 x2 x4) P → wX_highest_52 post J41 x3 s.1 s.2.1 (cc_em s.2.2.1) (cc_em s.2.2.2.1) (cc_em s.2.2.2.2.1) (cc_em s.2.2.2.2.2.1) (cc_em s.2.2.2.2.2.2.1) (cc_em s.2.2.2.2.2.2.2.1) (cc_em s.2.2.2.2.2.2.2.2.1) (cc_em s.2.2.2.2.2.2.2.2.2.1) (cc_em s.2.2.2.2.2.2.2.2.2.2) n x1 x2 x4 := by
  intro n
  induction n with
  | zero => exact fun x1 x2 x4 h => False.elim h
  | succ n ih =>
    intro x1 x2 x4 h
    refine cc_br h (fun h => nm_e (hJ _ _ _ h)) (fun h => cc_br h (fun h => cc_highest80 ih _ _ _ _ h) (fun h => ?_))
    obtain ⟨h4, h⟩ := cc_gd h
    exact ⟨h4, nm_e (cc_highest80 ih _ _ _ _ h)⟩
theorem cc_highest41 {post : Int32 → St2 → Prop} {s : cc_S} : ∀ (n : Nat) (x1 x2 x3 : Int32), cc_ok (cc_w41 s.1 s.2.2.2.1 s.2.2.2.2.2.2.2.1 n x1 x2 x3) (fun r => post r (cc_E s)) → wX_highest_41 post s.1 s.2.1 (cc_em s.2.2.1) (cc_em s.2.2.2.1) (cc_em s.2.2.2.2.1) (cc_em s.2.2.2.2.2.1) (cc_em s.2.2.2.2.2.2.1) (cc_em s.2.2.2.2.2.2.2.1) (cc_em s.2.2.2.2.2.2.2.2.1) (cc_em s.2.2.2.2.2.2.2.2.2.1) (cc_em s.2.2.2.2.2.2.2.2.2.2) n x1 x2 x3 := by
  intro n
  induction n with
  | zero => exact fun x1 x2 x3 h => False.elim h
  | succ n ih =>
    intro x1 x2 x3 h
    exact cc_br h (fun h => h) (fun h => Exists.intro 12 (cc_highest52 ih 12 _ _ _ h))
theorem cc_highest8 {post : Int32 → St2 → Prop} {s : cc_S} : ∀ (n : Nat) (x1 x2 : Int32), cc_ok (cc_w8 s.1 s.2.2.2.1 s.2.2.2.2.2.2.2.1 s.2.2.2.2.2.2.1 n x1 x2) (fun r => post r (cc_E s)) → wX_highest_8 post s.1 s.2.1 (cc_em s.2.2.1) (cc_em s.2.2.2.1) (cc_em s.2.2.2.2.1) (cc_em s.2.2.2.2.2.1) (cc_em s.2.2.2.2.2.2.1) (cc_em s.2.2.2.2.2.2.2.1) (cc_em s.2.2.2.2.2.2.2.2.1) (cc_em s.2.2.2.2.2.2.2.2.2.1) (cc_em s.2.2.2.2.2.2.2.2.2.2) n x1 x2 := by
  intro n
  induction n with
  | zero => exact fun x1 x2 h => False.elim h
  | succ n ih =>
    intro x1 x2 h
    refine cc_br h (fun h => Exists.intro 12 (cc_highest41 (s := s) 12 _ _ _ h)) (fun h => ?_)
    obtain ⟨h2, h⟩ := cc_gd h
    exact ⟨h2, cc_br h (fun h => nm_e (ih _ _ h)) (fun h => nm_e (nm_e (ih _ _ h)))⟩
def cc_highest (s : cc_S) : Option (Int32 × cc_S) := (cc_mall s).bind (fun s => (cc_w8 s.1 s.2.2.2.1 s.2.2.2.2.2.2.2.1 s.2.2.2.2.2.2.1 12 0 0).bind (fun r => some (r, s)))
theorem cc_highest_s {post : Int32 → St2 → Prop} (s : cc_S) (h : cc_ok (cc_highest s) (fun r => post r.1 (cc_E r.2))) : wpX_highest post (cc_E s) := by
  unfold wpX_highest
  dsimp only [cc_E]
  exact cc_mall_s s (cc_bm h (fun q h => Exists.intro 12 (cc_highest8 (s := q) 12 _ _ (cc_bm h (fun r h => h)))))
end
section
def cc_isl (s : cc_S) (p : Int32) : Option (Int32 × cc_S) := if cc_ise s.1 p = 0 then some (0, s) else cc_g p ((cc_wid s ((((1 : Int32) <<< (s.1 &&& 31)) - 1) &&& ((((cc_em s.2.2.1 p.toNatClampNeg) ||| (cc_em s.2.2.2.1 p.toNatClampNeg)) ||| ((1 : Int32) <<< (p &&& 31))) ^^^ (-1)))).bind (fun r => (cc_wid r.2 (((1 : Int32) <<< (s.1 &&& 31)) - 1)).bind (fun q => if r.1 + 1 = q.1 then some (1, q.2) else some (0, q.2))))
theorem cc_isl_s {post : Int32 → St2 → Prop} (s : cc_S) (p : Int32) (h : cc_ok (cc_isl s p) (fun r => post r.1 (cc_E r.2))) : wpX_inSomeLargest post (cc_E s) p := by
  unfold wpX_inSomeLargest
  dsimp only [cc_E]
  refine cc_ise_s (s := s) (cc_br h (fun h => h) (fun h => ?_))
  obtain ⟨hp, h⟩ := cc_gd h
  exact nm_e ⟨hp, hp, nm_e (cc_wid_s s _ (cc_bm h (fun r h => cc_wid_s r.2 _ (cc_bm h (fun q h => cc_br h (fun h => h) (fun h => h))))))⟩
def cc_r5 (x1 x2 : Int32) : Nat → Int32 → Int32 → Option Int32
  | 0 => fun _ _ => none
  | n + 1 => fun x3 x4 => if x2 ≤ x4 then some x3 else if ((x1 >>> (x4 &&& 31)) &&& 1) = 0 then cc_r5 x1 x2 n x3 (x4 + 1) else cc_r5 x1 x2 n (x3 ||| ((1 : Int32) <<< (((x2 - 1) - x4) &&& 31))) (x4 + 1)
theorem cc_r5_s {post : Int32 → Prop} {x1 x2 : Int32} {s : cc_S} : ∀ (n : Nat) (x3 x4 : Int32), cc_ok (cc_r5 x1 x2 n x3 x4) (fun r => post r) → wX_reversed_5 post x1 x2 s.1 s.2.1 (cc_em s.2.2.1) (cc_em s.2.2.2.1) (cc_em s.2.2.2.2.1) (cc_em s.2.2.2.2.2.1) (cc_em s.2.2.2.2.2.2.1) (cc_em s.2.2.2.2.2.2.2.1) (cc_em s.2.2.2.2.2.2.2.2.1) (cc_em s.2.2.2.2.2.2.2.2.2.1) (cc_em s.2.2.2.2.2.2.2.2.2.2) n x3 x4 := by
  intro n
  induction n with
  | zero => exact fun x3 x4 h => False.elim h
  | succ n ih =>
    intro x3 x4 h
    exact cc_br h (fun h => h) (fun h => cc_br h (fun h => nm_e (ih _ _ h)) (fun h => nm_e (nm_e (ih _ _ h))))
theorem cc_rev_s {post : Int32 → Prop} {s : cc_S} {p q : Int32} (h : cc_ok (cc_r5 p q 12 0 0) (fun r => post r)) : wpX_reversed post (cc_E s) p q :=
  Exists.intro 12 (cc_r5_s (s := s) 12 _ _ h)
def cc_ex (s : cc_S) (p q : Int32) : Option cc_S := match s with
  | (e, m, a1, a2, a3, a4, a5, a6, a7, a8, a9) => cc_g p (cc_g q (some (e, m, cc_st (cc_st (a1) (p.toNatClampNeg) (cc_em a1 q.toNatClampNeg)) (q.toNatClampNeg) (cc_em a1 p.toNatClampNeg), cc_st (cc_st (a2) (p.toNatClampNeg) (cc_em a2 q.toNatClampNeg)) (q.toNatClampNeg) (cc_em a2 p.toNatClampNeg), a3, a4, a5, a6, a7, a8, a9)))
theorem cc_ex_s {post : St2 → Prop} (s : cc_S) (p q : Int32) (h : cc_ok (cc_ex s p q) (fun s => post (cc_E s))) : wpX_exchangeSets post (cc_E s) p q := by
  obtain ⟨e, m, a1, a2, a3, a4, a5, a6, a7, a8, a9⟩ := s
  obtain ⟨hp, h⟩ := cc_gd h
  obtain ⟨hq, h⟩ := cc_gd h
  exact And.intro hp (nm_e ⟨hq, hp, nm_r (cc_upd _ _ _) ⟨hq, nm_r (cc_upd _ _ _) ⟨hp, nm_e ⟨hq, hp, nm_r (cc_upd _ _ _) ⟨hq, nm_r (cc_upd _ _ _) h⟩⟩⟩⟩⟩)
def cc_t34 (x1 : Int32) : Nat → Int32 → cc_L → cc_L → Option (cc_L × cc_L)
  | 0 => fun _ _ _ => none
  | n + 1 => fun x2 a1 a2 => if x1 ≤ x2 then some (a1, a2) else cc_g x2 ((cc_r5 (cc_em a2 x2.toNatClampNeg) x1 12 0 0).bind (fun r4 => (cc_r5 (cc_em a1 x2.toNatClampNeg) x1 12 0 0).bind (fun r6 => cc_t34 x1 n (x2 + 1) (cc_st a1 x2.toNatClampNeg r4) (cc_st a2 x2.toNatClampNeg r6))))
theorem cc_t34_s {post : Int32 → St2 → Prop} {x1 e m : Int32} {a3 a4 a5 a6 a7 a8 a9 : cc_L} : ∀ (n : Nat) (x2 : Int32) (a1 a2 : cc_L), cc_ok (cc_t34 x1 n x2 a1 a2) (fun r => post x1 (e, 0, cc_em r.1, cc_em r.2, cc_em a3, cc_em a4, cc_em a5, cc_em a6, cc_em a7, cc_em a8, cc_em a9)) → wX_turn_34 post x1 e m n x2 (cc_em a1) (cc_em a2) (cc_em a3) (cc_em a4) (cc_em a5) (cc_em a6) (cc_em a7) (cc_em a8) (cc_em a9) := by
  intro n
  induction n with
  | zero => exact fun x2 a1 a2 h => False.elim h
  | succ n ih =>
    intro x2 a1 a2 h
    refine cc_br h (fun h => h) (fun h => ?_)
    obtain ⟨h2, h⟩ := cc_gd h
    exact ⟨h2, cc_rev_s (s := (e, m, a1, a2, a3, a4, a5, a6, a7, a8, a9)) (cc_bm h (fun r4 h => ⟨h2, cc_rev_s (s := (e, m, a1, a2, a3, a4, a5, a6, a7, a8, a9)) (cc_bm h (fun r6 h => ⟨h2, nm_r (cc_upd _ _ _) ⟨h2, nm_r (cc_upd _ _ _) (nm_e (ih _ _ _ h))⟩⟩))⟩))⟩
def cc_t7 (x1 : Int32) : Nat → Int32 → cc_S → Option (Int32 × cc_S)
  | 0 => fun _ _ => none
  | n + 1 => fun x2 s => if ((x1 - 1) - x2) ≤ x2 then (cc_t34 x1 12 0 s.2.2.1 s.2.2.2.1).bind (fun r => some (x1, (s.1, 0, r.1, r.2, s.2.2.2.2))) else (cc_ex s x2 ((x1 - 1) - x2)).bind (fun s => cc_t7 x1 n (x2 + 1) s)
theorem cc_t7_s {post : Int32 → St2 → Prop} {x1 : Int32} : ∀ (n : Nat) (x2 : Int32) (s : cc_S), cc_ok (cc_t7 x1 n x2 s) (fun r => post r.1 (cc_E r.2)) → wX_turn_7 post x1 n x2 s.1 s.2.1 (cc_em s.2.2.1) (cc_em s.2.2.2.1) (cc_em s.2.2.2.2.1) (cc_em s.2.2.2.2.2.1) (cc_em s.2.2.2.2.2.2.1) (cc_em s.2.2.2.2.2.2.2.1) (cc_em s.2.2.2.2.2.2.2.2.1) (cc_em s.2.2.2.2.2.2.2.2.2.1) (cc_em s.2.2.2.2.2.2.2.2.2.2) := by
  intro n
  induction n with
  | zero => exact fun x2 s h => False.elim h
  | succ n ih =>
    intro x2 s h
    exact cc_br h (fun h => Exists.intro 12 (cc_t34_s 12 _ _ _ (cc_bm h (fun r h => h)))) (fun h => cc_ex_s s _ _ (cc_bm h (fun r h => nm_e (ih _ r h))))
def cc_turn (s : cc_S) : Option (Int32 × cc_S) := cc_t7 s.1 12 0 s
theorem cc_turn_s {post : Int32 → St2 → Prop} (s : cc_S) (h : cc_ok (cc_turn s) (fun r => post r.1 (cc_E r.2))) : wpX_turn post (cc_E s) :=
  Exists.intro 12 (cc_t7_s 12 _ s h)
def cc_bel (s : cc_S) (p q : Int32) : Option Int32 := if cc_ise s.1 p = 0 then some 0 else if cc_ise s.1 q = 0 then some 0 else cc_g q (if (((cc_em s.2.2.1 q.toNatClampNeg) >>> (p &&& 31)) &&& 1) = 0 then some 0 else some 1)
theorem cc_bel_s {post : Int32 → Prop} (s : cc_S) (p q : Int32) (h : cc_ok (cc_bel s p q) (fun r => post r)) : wpX_below post (cc_E s) p q := by
  unfold wpX_below
  dsimp only [cc_E]
  refine cc_ise_s (s := s) (cc_br h (fun h => h) (fun h => cc_ise_s (s := s) (cc_br h (fun h => h) (fun h => ?_))))
  obtain ⟨hq, h⟩ := cc_gd h
  exact ⟨hq, cc_br h (fun h => h) (fun h => h)⟩
end
section
def cc_x65 (x0 x1 : Int32) : Int32 := if x1 = 2 then (if (x0 &&& 1) = 0 then 0 else 1) else 0
/-- what the law expects of below(0, x1) -/
def cc_xb (x0 x1 x2 : Int32) : Int32 := if x2 = 0 then 0 else if x1 = 1 then (if (x0 &&& 2) = 0 then cc_x65 x0 x1 else 1) else cc_x65 x0 x1
/-- what the law expects of inSomeLargest(x1) -/
def cc_xi (x1 x3 x4 : Int32) : Int32 := if x1 < 0 then 0 else if x3 ≤ x1 then 0 else if x1 < 2 then 1 else if x4 = 0 then 1 else 0
/-- what the law expects of lowest() and of highest() -/
def cc_xl (x0 x2 : Int32) : Int32 := if x2 = 0 then 3 else if x0 = 0 then 7 else 3
def cc_xh (x0 x2 : Int32) : Int32 := if x2 = 0 then 3 else if x0 = 3 then 3 else if x0 = 0 then 7 else if x0 = 1 then 6 else 5
/-- every answer behind the third add is what the law expects -/
def cc_fine (s : cc_S) (x0 x1 x2 x3 x4 x5 : Int32) : Prop := ∃ (sA sB sC sD sE sF : cc_S) (lo hi b1 b2 : Int32), cc_wid s (((1 : Int32) <<< (x3 &&& 31)) - 1) = some (x5, sA) ∧ cc_lowest sA = some (lo, sB) ∧ cc_highest sB = some (hi, sC) ∧ cc_isl sC x1 = some (b1, sD) ∧ cc_turn sD = some (x3, sE) ∧ cc_bel sE 0 x1 = some b2 ∧ cc_wid sE (((1 : Int32) <<< (x3 &&& 31)) - 1) = some (x5, sF) ∧ lo = cc_xl x0 x2 ∧ hi = cc_xh x0 x2 ∧ b1 = cc_xi x1 x3 x4 ∧ b2 = cc_xb x0 x1 x2
theorem cc_ise_out {e p : Int32} (h : p < 0 ∨ e ≤ p) : cc_ise e p = 0 := by
  unfold cc_ise
  by_cases h1 : p < 0
  · rw [if_pos h1]
  · rw [if_neg h1, if_pos (h.resolve_left h1)]
theorem cc_isl_out {s : cc_S} {p : Int32} (h : p < 0 ∨ s.1 ≤ p) : cc_isl s p = some (0, s) := if_pos (cc_ise_out h)
theorem cc_bel_out {s : cc_S} {p q : Int32} (h : q < 0 ∨ s.1 ≤ q) : cc_bel s p q = some 0 := by
  unfold cc_bel
  rw [if_pos (cc_ise_out h)]
  by_cases h1 : cc_ise s.1 p = 0
  · rw [if_pos h1]
  · rw [if_neg h1]
theorem cc_xi_out {x1 x3 x4 : Int32} (h : x1 < 0 ∨ x3 ≤ x1) : 0 = cc_xi x1 x3 x4 := by
  unfold cc_xi
  by_cases h1 : x1 < 0
  · rw [if_pos h1]
  · rw [if_neg h1, if_pos (h.resolve_left h1)]
theorem cc_xb_out {x0 x1 x2 : Int32} (h : x1 < 0 ∨ 3 ≤ x1) : 0 = cc_xb x0 x1 x2 := by
  have n1 : ¬ x1 = 1 := fun z => absurd (z ▸ h : (1 : Int32) < 0 ∨ (3 : Int32) ≤ 1) (by decide)
  have n2 : ¬ x1 = 2 := fun z => absurd (z ▸ h : (2 : Int32) < 0 ∨ (3 : Int32) ≤ 2) (by decide)
  unfold cc_xb cc_x65
  rw [if_neg n1, if_neg n2]
  by_cases h2 : x2 = 0
  · rw [if_pos h2]
  · rw [if_neg h2]
/-- a run ends with r and s: by a Bool, for the kernel to compute -/
def cc_chk (o : Option (Int32 × cc_S)) (r : Int32) (s : cc_S) : Bool := match o with
  | none => false
  | some q => decide (q.1 = r) && (decide (q.2.1 = s.1) && (decide (q.2.2.1 = s.2.1) && (decide (q.2.2.2.1 = s.2.2.1) && (decide (q.2.2.2.2.1 = s.2.2.2.1) && (decide (q.2.2.2.2.2.1 = s.2.2.2.2.1) && (decide (q.2.2.2.2.2.2.1 = s.2.2.2.2.2.1) && (decide (q.2.2.2.2.2.2.2.1 = s.2.2.2.2.2.2.1) && (decide (q.2.2.2.2.2.2.2.2.1 = s.2.2.2.2.2.2.2.1) && (decide (q.2.2.2.2.2.2.2.2.2.1 = s.2.2.2.2.2.2.2.2.1) && (decide (q.2.2.2.2.2.2.2.2.2.2.1 = s.2.2.2.2.2.2.2.2.2.1) && (decide (q.2.2.2.2.2.2.2.2.2.2.2 = s.2.2.2.2.2.2.2.2.2.2))))))))))))
theorem cc_chk_eq {o : Option (Int32 × cc_S)} {r : Int32} {s : cc_S} (h : cc_chk o r s = true) : o = some (r, s) := by
  cases o with
  | none => exact Bool.noConfusion h
  | some q =>
    obtain ⟨q0, e, m, a1, a2, a3, a4, a5, a6, a7, a8, a9⟩ := q
    obtain ⟨e', m', b1, b2, b3, b4, b5, b6, b7, b8, b9⟩ := s
    simp only [cc_chk, Bool.and_eq_true, decide_eq_true_eq] at h
    obtain ⟨h0, h1, h2, h3, h4, h5, h6, h7, h8, h9, h10, h11⟩ := h
    subst h0 h1 h2 h3 h4 h5 h6 h7 h8 h9 h10 h11
    rfl
def cc_s0 : cc_S := (0, 1, [], [], [], [], [], [], [], [], [])
def cc_s1 : cc_S := (1, 1, [0], [0], [-1], [-1], [-1], [-1], [0], [], [])
theorem cc_h1 : cc_add cc_s0 0 = some (1, cc_s1) := cc_chk_eq (by decide +kernel)
def cc_s2 : cc_S := (2, 1, [0, 0], [0, 0], [-1, -1], [-1, -1], [-1, -1], [-1, -1], [1], [], [])
theorem cc_h2 : cc_add cc_s1 0 = some (2, cc_s2) := cc_chk_eq (by decide +kernel)
def cc_sA_b : cc_S := (2, 1, [0, 0], [0, 0], [-1, -1], [-1, -1], [-1, -1], [-1, -1], [1], [], [])
theorem cc_hA_b : cc_wid cc_s2 (((1 : Int32) <<< ((2 : Int32) &&& 31)) - 1) = some (2, cc_sA_b) := cc_chk_eq (by decide +kernel)
def cc_sB_b : cc_S := (2, 1, [0, 0], [0, 0], [-1, -1], [-1, -1], [-1, -1], [-1, -1], [1], [], [])
theorem cc_hB_b : cc_lowest cc_sA_b = some (3, cc_sB_b) := cc_chk_eq (by decide +kernel)
def cc_sC_b : cc_S := (2, 1, [0, 0], [0, 0], [-1, -1], [-1, -1], [-1, -1], [-1, -1], [1], [], [])
theorem cc_hC_b : cc_highest cc_sB_b = some (3, cc_sC_b) := cc_chk_eq (by decide +kernel)
def cc_sD_b_0 : cc_S := (2, 1, [0, 0], [0, 0], [-1, -1], [-1, -1], [-1, -1], [-1, -1], [1], [], [])
theorem cc_hD_b_0 : cc_isl cc_sC_b 0 = some (1, cc_sD_b_0) := cc_chk_eq (by decide +kernel)
def cc_sE_b_0 : cc_S := (2, 0, [0, 0], [0, 0], [-1, -1], [-1, -1], [-1, -1], [-1, -1], [1], [], [])
theorem cc_hE_b_0 : cc_turn cc_sD_b_0 = some (2, cc_sE_b_0) := cc_chk_eq (by decide +kernel)
theorem cc_hb_b_0 : cc_bel cc_sE_b_0 0 0 = some 0 := by decide +kernel
def cc_sF_b_0 : cc_S := (2, 1, [0, 0], [0, 0], [-1, -1], [-1, -1], [-1, -1], [-1, -1], [1], [], [])
theorem cc_hF_b_0 : cc_wid cc_sE_b_0 (((1 : Int32) <<< ((2 : Int32) &&& 31)) - 1) = some (2, cc_sF_b_0) := cc_chk_eq (by decide +kernel)
theorem cc_f_b_0 (x0 : Int32) : cc_fine cc_s2 x0 0 0 2 0 2 := ⟨cc_sA_b, cc_sB_b, cc_sC_b, cc_sD_b_0, cc_sE_b_0, cc_sF_b_0, 3, 3, 1, 0, cc_hA_b, cc_hB_b, cc_hC_b, cc_hD_b_0, cc_hE_b_0, cc_hb_b_0, cc_hF_b_0, by simp [cc_xl], by simp [cc_xh], by decide +kernel, by simp [cc_xb]⟩
def cc_sD_b_1 : cc_S := (2, 1, [0, 0], [0, 0], [-1, -1], [-1, -1], [-1, -1], [-1, -1], [0], [], [])
theorem cc_hD_b_1 : cc_isl cc_sC_b 1 = some (1, cc_sD_b_1) := cc_chk_eq (by decide +kernel)
def cc_sE_b_1 : cc_S := (2, 0, [0, 0], [0, 0], [-1, -1], [-1, -1], [-1, -1], [-1, -1], [0], [], [])
theorem cc_hE_b_1 : cc_turn cc_sD_b_1 = some (2, cc_sE_b_1) := cc_chk_eq (by decide +kernel)
theorem cc_hb_b_1 : cc_bel cc_sE_b_1 0 1 = some 0 := by decide +kernel
def cc_sF_b_1 : cc_S := (2, 1, [0, 0], [0, 0], [-1, -1], [-1, -1], [-1, -1], [-1, -1], [1], [], [])
theorem cc_hF_b_1 : cc_wid cc_sE_b_1 (((1 : Int32) <<< ((2 : Int32) &&& 31)) - 1) = some (2, cc_sF_b_1) := cc_chk_eq (by decide +kernel)
theorem cc_f_b_1 (x0 : Int32) : cc_fine cc_s2 x0 1 0 2 0 2 := ⟨cc_sA_b, cc_sB_b, cc_sC_b, cc_sD_b_1, cc_sE_b_1, cc_sF_b_1, 3, 3, 1, 0, cc_hA_b, cc_hB_b, cc_hC_b, cc_hD_b_1, cc_hE_b_1, cc_hb_b_1, cc_hF_b_1, by simp [cc_xl], by simp [cc_xh], by decide +kernel, by simp [cc_xb]⟩
def cc_sE_b_o : cc_S := (2, 0, [0, 0], [0, 0], [-1, -1], [-1, -1], [-1, -1], [-1, -1], [1], [], [])
theorem cc_hE_b_o : cc_turn cc_sC_b = some (2, cc_sE_b_o) := cc_chk_eq (by decide +kernel)
def cc_sF_b_o : cc_S := (2, 1, [0, 0], [0, 0], [-1, -1], [-1, -1], [-1, -1], [-1, -1], [1], [], [])
theorem cc_hF_b_o : cc_wid cc_sE_b_o (((1 : Int32) <<< ((2 : Int32) &&& 31)) - 1) = some (2, cc_sF_b_o) := cc_chk_eq (by decide +kernel)
theorem cc_f_b_o (x0 : Int32) (x1 : Int32) (hx : x1 < 0 ∨ 2 ≤ x1) : cc_fine cc_s2 x0 x1 0 2 0 2 := ⟨cc_sA_b, cc_sB_b, cc_sC_b, cc_sC_b, cc_sE_b_o, cc_sF_b_o, 3, 3, 0, 0, cc_hA_b, cc_hB_b, cc_hC_b, cc_isl_out hx, cc_hE_b_o, cc_bel_out hx, cc_hF_b_o, by simp [cc_xl], by simp [cc_xh], cc_xi_out hx, by simp [cc_xb]⟩
def cc_s3_0 : cc_S := (3, 1, [0, 0, 0], [0, 0, 0], [-1, -1, -1], [-1, -1, -1], [-1, -1, -1], [-1, -1, -1], [2], [], [])
theorem cc_h3_0 : cc_add cc_s2 0 = some (3, cc_s3_0) := cc_chk_eq (by decide +kernel)
def cc_sA_0 : cc_S := (3, 1, [0, 0, 0], [0, 0, 0], [-1, -1, -1], [-1, -1, -1], [-1, -1, -1], [-1, -1, -1], [2], [], [])
theorem cc_hA_0 : cc_wid cc_s3_0 (((1 : Int32) <<< ((3 : Int32) &&& 31)) - 1) = some (3, cc_sA_0) := cc_chk_eq (by decide +kernel)
def cc_sB_0 : cc_S := (3, 1, [0, 0, 0], [0, 0, 0], [-1, -1, -1], [-1, -1, -1], [-1, -1, -1], [-1, -1, -1], [2], [], [])
theorem cc_hB_0 : cc_lowest cc_sA_0 = some (7, cc_sB_0) := cc_chk_eq (by decide +kernel)
def cc_sC_0 : cc_S := (3, 1, [0, 0, 0], [0, 0, 0], [-1, -1, -1], [-1, -1, -1], [-1, -1, -1], [-1, -1, -1], [2], [], [])
theorem cc_hC_0 : cc_highest cc_sB_0 = some (7, cc_sC_0) := cc_chk_eq (by decide +kernel)
def cc_sD_0_0 : cc_S := (3, 1, [0, 0, 0], [0, 0, 0], [-1, -1, -1], [-1, -1, -1], [-1, -1, -1], [-1, -1, -1], [2], [], [])
theorem cc_hD_0_0 : cc_isl cc_sC_0 0 = some (1, cc_sD_0_0) := cc_chk_eq (by decide +kernel)
def cc_sE_0_0 : cc_S := (3, 0, [0, 0, 0], [0, 0, 0], [-1, -1, -1], [-1, -1, -1], [-1, -1, -1], [-1, -1, -1], [2], [], [])
theorem cc_hE_0_0 : cc_turn cc_sD_0_0 = some (3, cc_sE_0_0) := cc_chk_eq (by decide +kernel)
theorem cc_hb_0_0 : cc_bel cc_sE_0_0 0 0 = some 0 := by decide +kernel
def cc_sF_0_0 : cc_S := (3, 1, [0, 0, 0], [0, 0, 0], [-1, -1, -1], [-1, -1, -1], [-1, -1, -1], [-1, -1, -1], [2], [], [])
theorem cc_hF_0_0 : cc_wid cc_sE_0_0 (((1 : Int32) <<< ((3 : Int32) &&& 31)) - 1) = some (3, cc_sF_0_0) := cc_chk_eq (by decide +kernel)
theorem cc_f_0_0 : cc_fine cc_s3_0 0 0 1 3 0 3 := ⟨cc_sA_0, cc_sB_0, cc_sC_0, cc_sD_0_0, cc_sE_0_0, cc_sF_0_0, 7, 7, 1, 0, cc_hA_0, cc_hB_0, cc_hC_0, cc_hD_0_0, cc_hE_0_0, cc_hb_0_0, cc_hF_0_0, by decide +kernel, by decide +kernel, by decide +kernel, by decide +kernel⟩
def cc_sD_0_1 : cc_S := (3, 1, [0, 0, 0], [0, 0, 0], [-1, -1, -1], [-1, -1, -1], [-1, -1, -1], [-1, -1, -1], [2], [], [])
theorem cc_hD_0_1 : cc_isl cc_sC_0 1 = some (1, cc_sD_0_1) := cc_chk_eq (by decide +kernel)
def cc_sE_0_1 : cc_S := (3, 0, [0, 0, 0], [0, 0, 0], [-1, -1, -1], [-1, -1, -1], [-1, -1, -1], [-1, -1, -1], [2], [], [])
theorem cc_hE_0_1 : cc_turn cc_sD_0_1 = some (3, cc_sE_0_1) := cc_chk_eq (by decide +kernel)
theorem cc_hb_0_1 : cc_bel cc_sE_0_1 0 1 = some 0 := by decide +kernel
def cc_sF_0_1 : cc_S := (3, 1, [0, 0, 0], [0, 0, 0], [-1, -1, -1], [-1, -1, -1], [-1, -1, -1], [-1, -1, -1], [2], [], [])
theorem cc_hF_0_1 : cc_wid cc_sE_0_1 (((1 : Int32) <<< ((3 : Int32) &&& 31)) - 1) = some (3, cc_sF_0_1) := cc_chk_eq (by decide +kernel)
theorem cc_f_0_1 : cc_fine cc_s3_0 0 1 1 3 0 3 := ⟨cc_sA_0, cc_sB_0, cc_sC_0, cc_sD_0_1, cc_sE_0_1, cc_sF_0_1, 7, 7, 1, 0, cc_hA_0, cc_hB_0, cc_hC_0, cc_hD_0_1, cc_hE_0_1, cc_hb_0_1, cc_hF_0_1, by decide +kernel, by decide +kernel, by decide +kernel, by decide +kernel⟩
def cc_sD_0_2 : cc_S := (3, 1, [0, 0, 0], [0, 0, 0], [-1, -1, -1], [-1, -1, -1], [-1, -1, -1], [-1, -1, -1], [1], [], [])
theorem cc_hD_0_2 : cc_isl cc_sC_0 2 = some (1, cc_sD_0_2) := cc_chk_eq (by decide +kernel)
def cc_sE_0_2 : cc_S := (3, 0, [0, 0, 0], [0, 0, 0], [-1, -1, -1], [-1, -1, -1], [-1, -1, -1], [-1, -1, -1], [1], [], [])
theorem cc_hE_0_2 : cc_turn cc_sD_0_2 = some (3, cc_sE_0_2) := cc_chk_eq (by decide +kernel)
theorem cc_hb_0_2 : cc_bel cc_sE_0_2 0 2 = some 0 := by decide +kernel
def cc_sF_0_2 : cc_S := (3, 1, [0, 0, 0], [0, 0, 0], [-1, -1, -1], [-1, -1, -1], [-1, -1, -1], [-1, -1, -1], [2], [], [])
theorem cc_hF_0_2 : cc_wid cc_sE_0_2 (((1 : Int32) <<< ((3 : Int32) &&& 31)) - 1) = some (3, cc_sF_0_2) := cc_chk_eq (by decide +kernel)
theorem cc_f_0_2 : cc_fine cc_s3_0 0 2 1 3 0 3 := ⟨cc_sA_0, cc_sB_0, cc_sC_0, cc_sD_0_2, cc_sE_0_2, cc_sF_0_2, 7, 7, 1, 0, cc_hA_0, cc_hB_0, cc_hC_0, cc_hD_0_2, cc_hE_0_2, cc_hb_0_2, cc_hF_0_2, by decide +kernel, by decide +kernel, by decide +kernel, by decide +kernel⟩
def cc_sE_0_o : cc_S := (3, 0, [0, 0, 0], [0, 0, 0], [-1, -1, -1], [-1, -1, -1], [-1, -1, -1], [-1, -1, -1], [2], [], [])
theorem cc_hE_0_o : cc_turn cc_sC_0 = some (3, cc_sE_0_o) := cc_chk_eq (by decide +kernel)
def cc_sF_0_o : cc_S := (3, 1, [0, 0, 0], [0, 0, 0], [-1, -1, -1], [-1, -1, -1], [-1, -1, -1], [-1, -1, -1], [2], [], [])
theorem cc_hF_0_o : cc_wid cc_sE_0_o (((1 : Int32) <<< ((3 : Int32) &&& 31)) - 1) = some (3, cc_sF_0_o) := cc_chk_eq (by decide +kernel)
theorem cc_f_0_o (x1 : Int32) (hx : x1 < 0 ∨ 3 ≤ x1) : cc_fine cc_s3_0 0 x1 1 3 0 3 := ⟨cc_sA_0, cc_sB_0, cc_sC_0, cc_sC_0, cc_sE_0_o, cc_sF_0_o, 7, 7, 0, 0, cc_hA_0, cc_hB_0, cc_hC_0, cc_isl_out hx, cc_hE_0_o, cc_bel_out hx, cc_hF_0_o, by decide +kernel, by decide +kernel, cc_xi_out hx, cc_xb_out hx⟩
def cc_s3_1 : cc_S := (3, 1, [0, 0, 1], [4, 0, 0], [2, -1, -1], [-1, -1, 0], [2, -1, -1], [-1, -1, 0], [0], [0, 0, 0], [])
theorem cc_h3_1 : cc_add cc_s2 1 = some (3, cc_s3_1) := cc_chk_eq (by decide +kernel)
def cc_sA_1 : cc_S := (3, 1, [0, 0, 1], [4, 0, 0], [2, -1, -1], [-1, -1, 0], [2, -1, -1], [-1, -1, 0], [0], [0, 0, 0], [])
theorem cc_hA_1 : cc_wid cc_s3_1 (((1 : Int32) <<< ((3 : Int32) &&& 31)) - 1) = some (2, cc_sA_1) := cc_chk_eq (by decide +kernel)
def cc_sB_1 : cc_S := (3, 1, [0, 0, 1], [4, 0, 0], [2, -1, -1], [-1, -1, 0], [2, -1, -1], [-1, -1, 0], [0], [0, 0, 0], [])
theorem cc_hB_1 : cc_lowest cc_sA_1 = some (3, cc_sB_1) := cc_chk_eq (by decide +kernel)
def cc_sC_1 : cc_S := (3, 1, [0, 0, 1], [4, 0, 0], [2, -1, -1], [-1, -1, 0], [2, -1, -1], [-1, -1, 0], [0], [0, 0, 0], [])
theorem cc_hC_1 : cc_highest cc_sB_1 = some (6, cc_sC_1) := cc_chk_eq (by decide +kernel)
def cc_sD_1_0 : cc_S := (3, 1, [0, 0, 1], [4, 0, 0], [2, -1, -1], [-1, -1, 0], [2, -1, -1], [-1, -1, 0], [1], [0, 0, 0], [])
theorem cc_hD_1_0 : cc_isl cc_sC_1 0 = some (1, cc_sD_1_0) := cc_chk_eq (by decide +kernel)
def cc_sE_1_0 : cc_S := (3, 0, [0, 0, 1], [4, 0, 0], [2, -1, -1], [-1, -1, 0], [2, -1, -1], [-1, -1, 0], [1], [0, 0, 0], [])
theorem cc_hE_1_0 : cc_turn cc_sD_1_0 = some (3, cc_sE_1_0) := cc_chk_eq (by decide +kernel)
theorem cc_hb_1_0 : cc_bel cc_sE_1_0 0 0 = some 0 := by decide +kernel
def cc_sF_1_0 : cc_S := (3, 1, [0, 0, 1], [4, 0, 0], [2, -1, -1], [-1, -1, 0], [2, -1, -1], [-1, -1, 0], [2], [0, 0, 0], [])
theorem cc_hF_1_0 : cc_wid cc_sE_1_0 (((1 : Int32) <<< ((3 : Int32) &&& 31)) - 1) = some (2, cc_sF_1_0) := cc_chk_eq (by decide +kernel)
theorem cc_f_1_0 : cc_fine cc_s3_1 1 0 1 3 0 2 := ⟨cc_sA_1, cc_sB_1, cc_sC_1, cc_sD_1_0, cc_sE_1_0, cc_sF_1_0, 3, 6, 1, 0, cc_hA_1, cc_hB_1, cc_hC_1, cc_hD_1_0, cc_hE_1_0, cc_hb_1_0, cc_hF_1_0, by decide +kernel, by decide +kernel, by decide +kernel, by decide +kernel⟩
def cc_sD_1_1 : cc_S := (3, 1, [0, 0, 1], [4, 0, 0], [2, -1, -1], [-1, -1, 0], [2, -1, -1], [-1, -1, 0], [2], [0, 0, 0], [])
theorem cc_hD_1_1 : cc_isl cc_sC_1 1 = some (1, cc_sD_1_1) := cc_chk_eq (by decide +kernel)
def cc_sE_1_1 : cc_S := (3, 0, [0, 0, 1], [4, 0, 0], [2, -1, -1], [-1, -1, 0], [2, -1, -1], [-1, -1, 0], [2], [0, 0, 0], [])
theorem cc_hE_1_1 : cc_turn cc_sD_1_1 = some (3, cc_sE_1_1) := cc_chk_eq (by decide +kernel)
theorem cc_hb_1_1 : cc_bel cc_sE_1_1 0 1 = some 0 := by decide +kernel
def cc_sF_1_1 : cc_S := (3, 1, [0, 0, 1], [4, 0, 0], [2, -1, -1], [-1, -1, 0], [2, -1, -1], [-1, -1, 0], [2], [0, 0, 0], [])
theorem cc_hF_1_1 : cc_wid cc_sE_1_1 (((1 : Int32) <<< ((3 : Int32) &&& 31)) - 1) = some (2, cc_sF_1_1) := cc_chk_eq (by decide +kernel)
theorem cc_f_1_1 : cc_fine cc_s3_1 1 1 1 3 0 2 := ⟨cc_sA_1, cc_sB_1, cc_sC_1, cc_sD_1_1, cc_sE_1_1, cc_sF_1_1, 3, 6, 1, 0, cc_hA_1, cc_hB_1, cc_hC_1, cc_hD_1_1, cc_hE_1_1, cc_hb_1_1, cc_hF_1_1, by decide +kernel, by decide +kernel, by decide +kernel, by decide +kernel⟩
def cc_sD_1_2 : cc_S := (3, 1, [0, 0, 1], [4, 0, 0], [2, -1, -1], [-1, -1, 0], [2, -1, -1], [-1, -1, 0], [1], [0, 0, 0], [])
theorem cc_hD_1_2 : cc_isl cc_sC_1 2 = some (1, cc_sD_1_2) := cc_chk_eq (by decide +kernel)
def cc_sE_1_2 : cc_S := (3, 0, [0, 0, 1], [4, 0, 0], [2, -1, -1], [-1, -1, 0], [2, -1, -1], [-1, -1, 0], [1], [0, 0, 0], [])
theorem cc_hE_1_2 : cc_turn cc_sD_1_2 = some (3, cc_sE_1_2) := cc_chk_eq (by decide +kernel)
theorem cc_hb_1_2 : cc_bel cc_sE_1_2 0 2 = some 1 := by decide +kernel
def cc_sF_1_2 : cc_S := (3, 1, [0, 0, 1], [4, 0, 0], [2, -1, -1], [-1, -1, 0], [2, -1, -1], [-1, -1, 0], [2], [0, 0, 0], [])
theorem cc_hF_1_2 : cc_wid cc_sE_1_2 (((1 : Int32) <<< ((3 : Int32) &&& 31)) - 1) = some (2, cc_sF_1_2) := cc_chk_eq (by decide +kernel)
theorem cc_f_1_2 : cc_fine cc_s3_1 1 2 1 3 0 2 := ⟨cc_sA_1, cc_sB_1, cc_sC_1, cc_sD_1_2, cc_sE_1_2, cc_sF_1_2, 3, 6, 1, 1, cc_hA_1, cc_hB_1, cc_hC_1, cc_hD_1_2, cc_hE_1_2, cc_hb_1_2, cc_hF_1_2, by decide +kernel, by decide +kernel, by decide +kernel, by decide +kernel⟩
def cc_sE_1_o : cc_S := (3, 0, [0, 0, 1], [4, 0, 0], [2, -1, -1], [-1, -1, 0], [2, -1, -1], [-1, -1, 0], [0], [0, 0, 0], [])
theorem cc_hE_1_o : cc_turn cc_sC_1 = some (3, cc_sE_1_o) := cc_chk_eq (by decide +kernel)
def cc_sF_1_o : cc_S := (3, 1, [0, 0, 1], [4, 0, 0], [2, -1, -1], [-1, -1, 0], [2, -1, -1], [-1, -1, 0], [2], [0, 0, 0], [])
theorem cc_hF_1_o : cc_wid cc_sE_1_o (((1 : Int32) <<< ((3 : Int32) &&& 31)) - 1) = some (2, cc_sF_1_o) := cc_chk_eq (by decide +kernel)
theorem cc_f_1_o (x1 : Int32) (hx : x1 < 0 ∨ 3 ≤ x1) : cc_fine cc_s3_1 1 x1 1 3 0 2 := ⟨cc_sA_1, cc_sB_1, cc_sC_1, cc_sC_1, cc_sE_1_o, cc_sF_1_o, 3, 6, 0, 0, cc_hA_1, cc_hB_1, cc_hC_1, cc_isl_out hx, cc_hE_1_o, cc_bel_out hx, cc_hF_1_o, by decide +kernel, by decide +kernel, cc_xi_out hx, cc_xb_out hx⟩
def cc_s3_2 : cc_S := (3, 1, [0, 0, 2], [0, 4, 0], [-1, 2, -1], [-1, -1, 1], [-1, 2, -1], [-1, -1, 1], [1], [0, 0, 1], [])
theorem cc_h3_2 : cc_add cc_s2 2 = some (3, cc_s3_2) := cc_chk_eq (by decide +kernel)
def cc_sA_2 : cc_S := (3, 1, [0, 0, 2], [0, 4, 0], [-1, 2, -1], [-1, -1, 1], [-1, 2, -1], [-1, -1, 1], [1], [0, 0, 1], [])
theorem cc_hA_2 : cc_wid cc_s3_2 (((1 : Int32) <<< ((3 : Int32) &&& 31)) - 1) = some (2, cc_sA_2) := cc_chk_eq (by decide +kernel)
def cc_sB_2 : cc_S := (3, 1, [0, 0, 2], [0, 4, 0], [-1, 2, -1], [-1, -1, 1], [-1, 2, -1], [-1, -1, 1], [1], [0, 0, 1], [])
theorem cc_hB_2 : cc_lowest cc_sA_2 = some (3, cc_sB_2) := cc_chk_eq (by decide +kernel)
def cc_sC_2 : cc_S := (3, 1, [0, 0, 2], [0, 4, 0], [-1, 2, -1], [-1, -1, 1], [-1, 2, -1], [-1, -1, 1], [1], [0, 0, 1], [])
theorem cc_hC_2 : cc_highest cc_sB_2 = some (5, cc_sC_2) := cc_chk_eq (by decide +kernel)
def cc_sD_2_0 : cc_S := (3, 1, [0, 0, 2], [0, 4, 0], [-1, 2, -1], [-1, -1, 1], [-1, 2, -1], [-1, -1, 1], [2], [0, 0, 1], [])
theorem cc_hD_2_0 : cc_isl cc_sC_2 0 = some (1, cc_sD_2_0) := cc_chk_eq (by decide +kernel)
def cc_sE_2_0 : cc_S := (3, 0, [0, 1, 0], [2, 0, 0], [-1, 2, -1], [-1, -1, 1], [-1, 2, -1], [-1, -1, 1], [2], [0, 0, 1], [])
theorem cc_hE_2_0 : cc_turn cc_sD_2_0 = some (3, cc_sE_2_0) := cc_chk_eq (by decide +kernel)
theorem cc_hb_2_0 : cc_bel cc_sE_2_0 0 0 = some 0 := by decide +kernel
def cc_sF_2_0 : cc_S := (3, 1, [0, 1, 0], [2, 0, 0], [1, -1, -1], [-1, 0, -1], [1, -1, -1], [-1, 0, -1], [2], [0, 0, 1], [])
theorem cc_hF_2_0 : cc_wid cc_sE_2_0 (((1 : Int32) <<< ((3 : Int32) &&& 31)) - 1) = some (2, cc_sF_2_0) := cc_chk_eq (by decide +kernel)
theorem cc_f_2_0 : cc_fine cc_s3_2 2 0 1 3 0 2 := ⟨cc_sA_2, cc_sB_2, cc_sC_2, cc_sD_2_0, cc_sE_2_0, cc_sF_2_0, 3, 5, 1, 0, cc_hA_2, cc_hB_2, cc_hC_2, cc_hD_2_0, cc_hE_2_0, cc_hb_2_0, cc_hF_2_0, by decide +kernel, by decide +kernel, by decide +kernel, by decide +kernel⟩
def cc_sD_2_1 : cc_S := (3, 1, [0, 0, 2], [0, 4, 0], [-1, 2, -1], [-1, -1, 1], [-1, 2, -1], [-1, -1, 1], [0], [0, 0, 1], [])
theorem cc_hD_2_1 : cc_isl cc_sC_2 1 = some (1, cc_sD_2_1) := cc_chk_eq (by decide +kernel)
def cc_sE_2_1 : cc_S := (3, 0, [0, 1, 0], [2, 0, 0], [-1, 2, -1], [-1, -1, 1], [-1, 2, -1], [-1, -1, 1], [0], [0, 0, 1], [])
theorem cc_hE_2_1 : cc_turn cc_sD_2_1 = some (3, cc_sE_2_1) := cc_chk_eq (by decide +kernel)
theorem cc_hb_2_1 : cc_bel cc_sE_2_1 0 1 = some 1 := by decide +kernel
def cc_sF_2_1 : cc_S := (3, 1, [0, 1, 0], [2, 0, 0], [1, -1, -1], [-1, 0, -1], [1, -1, -1], [-1, 0, -1], [2], [0, 0, 1], [])
theorem cc_hF_2_1 : cc_wid cc_sE_2_1 (((1 : Int32) <<< ((3 : Int32) &&& 31)) - 1) = some (2, cc_sF_2_1) := cc_chk_eq (by decide +kernel)
theorem cc_f_2_1 : cc_fine cc_s3_2 2 1 1 3 0 2 := ⟨cc_sA_2, cc_sB_2, cc_sC_2, cc_sD_2_1, cc_sE_2_1, cc_sF_2_1, 3, 5, 1, 1, cc_hA_2, cc_hB_2, cc_hC_2, cc_hD_2_1, cc_hE_2_1, cc_hb_2_1, cc_hF_2_1, by decide +kernel, by decide +kernel, by decide +kernel, by decide +kernel⟩
def cc_sD_2_2 : cc_S := (3, 1, [0, 0, 2], [0, 4, 0], [-1, 2, -1], [-1, -1, 1], [-1, 2, -1], [-1, -1, 1], [0], [0, 0, 1], [])
theorem cc_hD_2_2 : cc_isl cc_sC_2 2 = some (1, cc_sD_2_2) := cc_chk_eq (by decide +kernel)
def cc_sE_2_2 : cc_S := (3, 0, [0, 1, 0], [2, 0, 0], [-1, 2, -1], [-1, -1, 1], [-1, 2, -1], [-1, -1, 1], [0], [0, 0, 1], [])
theorem cc_hE_2_2 : cc_turn cc_sD_2_2 = some (3, cc_sE_2_2) := cc_chk_eq (by decide +kernel)
theorem cc_hb_2_2 : cc_bel cc_sE_2_2 0 2 = some 0 := by decide +kernel
def cc_sF_2_2 : cc_S := (3, 1, [0, 1, 0], [2, 0, 0], [1, -1, -1], [-1, 0, -1], [1, -1, -1], [-1, 0, -1], [2], [0, 0, 1], [])
theorem cc_hF_2_2 : cc_wid cc_sE_2_2 (((1 : Int32) <<< ((3 : Int32) &&& 31)) - 1) = some (2, cc_sF_2_2) := cc_chk_eq (by decide +kernel)
theorem cc_f_2_2 : cc_fine cc_s3_2 2 2 1 3 0 2 := ⟨cc_sA_2, cc_sB_2, cc_sC_2, cc_sD_2_2, cc_sE_2_2, cc_sF_2_2, 3, 5, 1, 0, cc_hA_2, cc_hB_2, cc_hC_2, cc_hD_2_2, cc_hE_2_2, cc_hb_2_2, cc_hF_2_2, by decide +kernel, by decide +kernel, by decide +kernel, by decide +kernel⟩
def cc_sE_2_o : cc_S := (3, 0, [0, 1, 0], [2, 0, 0], [-1, 2, -1], [-1, -1, 1], [-1, 2, -1], [-1, -1, 1], [1], [0, 0, 1], [])
theorem cc_hE_2_o : cc_turn cc_sC_2 = some (3, cc_sE_2_o) := cc_chk_eq (by decide +kernel)
def cc_sF_2_o : cc_S := (3, 1, [0, 1, 0], [2, 0, 0], [1, -1, -1], [-1, 0, -1], [1, -1, -1], [-1, 0, -1], [2], [0, 0, 1], [])
theorem cc_hF_2_o : cc_wid cc_sE_2_o (((1 : Int32) <<< ((3 : Int32) &&& 31)) - 1) = some (2, cc_sF_2_o) := cc_chk_eq (by decide +kernel)
theorem cc_f_2_o (x1 : Int32) (hx : x1 < 0 ∨ 3 ≤ x1) : cc_fine cc_s3_2 2 x1 1 3 0 2 := ⟨cc_sA_2, cc_sB_2, cc_sC_2, cc_sC_2, cc_sE_2_o, cc_sF_2_o, 3, 5, 0, 0, cc_hA_2, cc_hB_2, cc_hC_2, cc_isl_out hx, cc_hE_2_o, cc_bel_out hx, cc_hF_2_o, by decide +kernel, by decide +kernel, cc_xi_out hx, cc_xb_out hx⟩
def cc_s3_3 : cc_S := (3, 1, [0, 0, 3], [4, 4, 0], [2, -1, -1], [-1, -1, 0], [2, -1, -1], [-1, -1, 0], [0], [0, 0, 0], [])
theorem cc_h3_3 : cc_add cc_s2 3 = some (3, cc_s3_3) := cc_chk_eq (by decide +kernel)
def cc_sA_3 : cc_S := (3, 1, [0, 0, 3], [4, 4, 0], [2, -1, -1], [-1, -1, 0], [2, -1, -1], [-1, -1, 0], [0], [0, 0, 0], [])
theorem cc_hA_3 : cc_wid cc_s3_3 (((1 : Int32) <<< ((3 : Int32) &&& 31)) - 1) = some (2, cc_sA_3) := cc_chk_eq (by decide +kernel)
def cc_sB_3 : cc_S := (3, 1, [0, 0, 3], [4, 4, 0], [2, -1, -1], [-1, -1, 0], [2, -1, -1], [-1, -1, 0], [0], [0, 0, 0], [])
theorem cc_hB_3 : cc_lowest cc_sA_3 = some (3, cc_sB_3) := cc_chk_eq (by decide +kernel)
def cc_sC_3 : cc_S := (3, 1, [0, 0, 3], [4, 4, 0], [2, -1, -1], [-1, -1, 0], [2, -1, -1], [-1, -1, 0], [0], [0, 0, 0], [])
theorem cc_hC_3 : cc_highest cc_sB_3 = some (3, cc_sC_3) := cc_chk_eq (by decide +kernel)
def cc_sD_3_0 : cc_S := (3, 1, [0, 0, 3], [4, 4, 0], [2, -1, -1], [-1, -1, 0], [2, -1, -1], [-1, -1, 0], [1], [0, 0, 0], [])
theorem cc_hD_3_0 : cc_isl cc_sC_3 0 = some (1, cc_sD_3_0) := cc_chk_eq (by decide +kernel)
def cc_sE_3_0 : cc_S := (3, 0, [0, 1, 1], [6, 0, 0], [2, -1, -1], [-1, -1, 0], [2, -1, -1], [-1, -1, 0], [1], [0, 0, 0], [])
theorem cc_hE_3_0 : cc_turn cc_sD_3_0 = some (3, cc_sE_3_0) := cc_chk_eq (by decide +kernel)
theorem cc_hb_3_0 : cc_bel cc_sE_3_0 0 0 = some 0 := by decide +kernel
def cc_sF_3_0 : cc_S := (3, 1, [0, 1, 1], [6, 0, 0], [1, -1, -1], [-1, 0, -1], [1, -1, -1], [-1, 0, -1], [2], [0, 0, 0], [])
theorem cc_hF_3_0 : cc_wid cc_sE_3_0 (((1 : Int32) <<< ((3 : Int32) &&& 31)) - 1) = some (2, cc_sF_3_0) := cc_chk_eq (by decide +kernel)
theorem cc_f_3_0 : cc_fine cc_s3_3 3 0 1 3 1 2 := ⟨cc_sA_3, cc_sB_3, cc_sC_3, cc_sD_3_0, cc_sE_3_0, cc_sF_3_0, 3, 3, 1, 0, cc_hA_3, cc_hB_3, cc_hC_3, cc_hD_3_0, cc_hE_3_0, cc_hb_3_0, cc_hF_3_0, by decide +kernel, by decide +kernel, by decide +kernel, by decide +kernel⟩
def cc_sD_3_1 : cc_S := (3, 1, [0, 0, 3], [4, 4, 0], [2, -1, -1], [-1, -1, 0], [2, -1, -1], [-1, -1, 0], [0], [0, 0, 0], [])
theorem cc_hD_3_1 : cc_isl cc_sC_3 1 = some (1, cc_sD_3_1) := cc_chk_eq (by decide +kernel)
def cc_sE_3_1 : cc_S := (3, 0, [0, 1, 1], [6, 0, 0], [2, -1, -1], [-1, -1, 0], [2, -1, -1], [-1, -1, 0], [0], [0, 0, 0], [])
theorem cc_hE_3_1 : cc_turn cc_sD_3_1 = some (3, cc_sE_3_1) := cc_chk_eq (by decide +kernel)
theorem cc_hb_3_1 : cc_bel cc_sE_3_1 0 1 = some 1 := by decide +kernel
def cc_sF_3_1 : cc_S := (3, 1, [0, 1, 1], [6, 0, 0], [1, -1, -1], [-1, 0, -1], [1, -1, -1], [-1, 0, -1], [2], [0, 0, 0], [])
theorem cc_hF_3_1 : cc_wid cc_sE_3_1 (((1 : Int32) <<< ((3 : Int32) &&& 31)) - 1) = some (2, cc_sF_3_1) := cc_chk_eq (by decide +kernel)
theorem cc_f_3_1 : cc_fine cc_s3_3 3 1 1 3 1 2 := ⟨cc_sA_3, cc_sB_3, cc_sC_3, cc_sD_3_1, cc_sE_3_1, cc_sF_3_1, 3, 3, 1, 1, cc_hA_3, cc_hB_3, cc_hC_3, cc_hD_3_1, cc_hE_3_1, cc_hb_3_1, cc_hF_3_1, by decide +kernel, by decide +kernel, by decide +kernel, by decide +kernel⟩
def cc_sD_3_2 : cc_S := (3, 1, [0, 0, 3], [4, 4, 0], [2, -1, -1], [-1, -1, 0], [2, -1, -1], [-1, -1, 0], [0], [0, 0, 0], [])
theorem cc_hD_3_2 : cc_isl cc_sC_3 2 = some (0, cc_sD_3_2) := cc_chk_eq (by decide +kernel)
def cc_sE_3_2 : cc_S := (3, 0, [0, 1, 1], [6, 0, 0], [2, -1, -1], [-1, -1, 0], [2, -1, -1], [-1, -1, 0], [0], [0, 0, 0], [])
theorem cc_hE_3_2 : cc_turn cc_sD_3_2 = some (3, cc_sE_3_2) := cc_chk_eq (by decide +kernel)
theorem cc_hb_3_2 : cc_bel cc_sE_3_2 0 2 = some 1 := by decide +kernel
def cc_sF_3_2 : cc_S := (3, 1, [0, 1, 1], [6, 0, 0], [1, -1, -1], [-1, 0, -1], [1, -1, -1], [-1, 0, -1], [2], [0, 0, 0], [])
theorem cc_hF_3_2 : cc_wid cc_sE_3_2 (((1 : Int32) <<< ((3 : Int32) &&& 31)) - 1) = some (2, cc_sF_3_2) := cc_chk_eq (by decide +kernel)
theorem cc_f_3_2 : cc_fine cc_s3_3 3 2 1 3 1 2 := ⟨cc_sA_3, cc_sB_3, cc_sC_3, cc_sD_3_2, cc_sE_3_2, cc_sF_3_2, 3, 3, 0, 1, cc_hA_3, cc_hB_3, cc_hC_3, cc_hD_3_2, cc_hE_3_2, cc_hb_3_2, cc_hF_3_2, by decide +kernel, by decide +kernel, by decide +kernel, by decide +kernel⟩
def cc_sE_3_o : cc_S := (3, 0, [0, 1, 1], [6, 0, 0], [2, -1, -1], [-1, -1, 0], [2, -1, -1], [-1, -1, 0], [0], [0, 0, 0], [])
theorem cc_hE_3_o : cc_turn cc_sC_3 = some (3, cc_sE_3_o) := cc_chk_eq (by decide +kernel)
def cc_sF_3_o : cc_S := (3, 1, [0, 1, 1], [6, 0, 0], [1, -1, -1], [-1, 0, -1], [1, -1, -1], [-1, 0, -1], [2], [0, 0, 0], [])
theorem cc_hF_3_o : cc_wid cc_sE_3_o (((1 : Int32) <<< ((3 : Int32) &&& 31)) - 1) = some (2, cc_sF_3_o) := cc_chk_eq (by decide +kernel)
theorem cc_f_3_o (x1 : Int32) (hx : x1 < 0 ∨ 3 ≤ x1) : cc_fine cc_s3_3 3 x1 1 3 1 2 := ⟨cc_sA_3, cc_sB_3, cc_sC_3, cc_sC_3, cc_sE_3_o, cc_sF_3_o, 3, 3, 0, 0, cc_hA_3, cc_hB_3, cc_hC_3, cc_isl_out hx, cc_hE_3_o, cc_bel_out hx, cc_hF_3_o, by decide +kernel, by decide +kernel, cc_xi_out hx, cc_xb_out hx⟩
end
section
theorem cc_add_v {post : Int32 → St2 → Prop} {s s' : cc_S} {p r : Int32} (h : cc_add s p = some (r, s')) (hp : post r (cc_E s')) : wpX_add post (cc_E s) p := cc_add_s s p (cc_eq h hp)
theorem cc_wid_v {post : Int32 → St2 → Prop} {s s' : cc_S} {p r : Int32} (h : cc_wid s p = some (r, s')) (hp : post r (cc_E s')) : wpX_width post (cc_E s) p := cc_wid_s s p (cc_eq h hp)
theorem cc_lowest_v {post : Int32 → St2 → Prop} {s s' : cc_S} {r : Int32} (h : cc_lowest s = some (r, s')) (hp : post r (cc_E s')) : wpX_lowest post (cc_E s) := cc_lowest_s s (cc_eq h hp)
theorem cc_highest_v {post : Int32 → St2 → Prop} {s s' : cc_S} {r : Int32} (h : cc_highest s = some (r, s')) (hp : post r (cc_E s')) : wpX_highest post (cc_E s) := cc_highest_s s (cc_eq h hp)
theorem cc_isl_v {post : Int32 → St2 → Prop} {s s' : cc_S} {p r : Int32} (h : cc_isl s p = some (r, s')) (hp : post r (cc_E s')) : wpX_inSomeLargest post (cc_E s) p := cc_isl_s s p (cc_eq h hp)
theorem cc_turn_v {post : Int32 → St2 → Prop} {s s' : cc_S} {r : Int32} (h : cc_turn s = some (r, s')) (hp : post r (cc_E s')) : wpX_turn post (cc_E s) := cc_turn_s s (cc_eq h hp)
theorem cc_bel_v {post : Int32 → Prop} {s : cc_S} {p q r : Int32} (h : cc_bel s p q = some r) (hp : post r) : wpX_below post (cc_E s) p q := cc_bel_s s p q (cc_eq h hp)
section
variable {post : Int32 → St0 → Prop} {mc ms kc ks : Nat} {x0 x1 x2 x3 x4 x5 : Int32}
theorem cc_281 {z0 z1 : Int32} {s s' : cc_S} (hp : post 1 ()) (hw : cc_wid s (((1 : Int32) <<< (x3 &&& 31)) - 1) = some (x5, s')) (hz : z1 = z0) : wL_lawOf_281 post mc ms x3 x5 z0 z1 kc ks s.1 s.2.1 (cc_em s.2.2.1) (cc_em s.2.2.2.1) (cc_em s.2.2.2.2.1) (cc_em s.2.2.2.2.2.1) (cc_em s.2.2.2.2.2.2.1) (cc_em s.2.2.2.2.2.2.2.1) (cc_em s.2.2.2.2.2.2.2.2.1) (cc_em s.2.2.2.2.2.2.2.2.2.1) (cc_em s.2.2.2.2.2.2.2.2.2.2) :=
  br_t hz (cc_wid_v hw (br_t rfl hp))
theorem cc_265 {r : Int32} {s s' : cc_S} (hp : post 1 ()) (hw : cc_wid s (((1 : Int32) <<< (x3 &&& 31)) - 1) = some (x5, s')) (hz : r = cc_x65 x0 x1) : wL_lawOf_265 post mc ms x0 x1 x3 x5 r kc ks s.1 s.2.1 (cc_em s.2.2.1) (cc_em s.2.2.2.1) (cc_em s.2.2.2.2.1) (cc_em s.2.2.2.2.2.1) (cc_em s.2.2.2.2.2.2.1) (cc_em s.2.2.2.2.2.2.2.1) (cc_em s.2.2.2.2.2.2.2.2.1) (cc_em s.2.2.2.2.2.2.2.2.2.1) (cc_em s.2.2.2.2.2.2.2.2.2.2) :=
  cc_bv (fun y => r = y) hz (fun h => cc_bv (fun y => r = y) h (fun h => cc_281 hp hw h) (fun h => cc_281 hp hw h)) (fun h => cc_281 hp hw h)
theorem cc_227 {z0 z1 b : Int32} {s sE sF : cc_S} (hp : post 1 ()) (ht : cc_turn s = some (x3, sE)) (hb : cc_bel sE 0 x1 = some b) (hx : b = cc_xb x0 x1 x2) (hw : cc_wid sE (((1 : Int32) <<< (x3 &&& 31)) - 1) = some (x5, sF)) (hz : z1 = z0) : wL_lawOf_227 post mc ms x0 x1 x2 x3 x5 z0 z1 kc ks s.1 s.2.1 (cc_em s.2.2.1) (cc_em s.2.2.2.1) (cc_em s.2.2.2.2.1) (cc_em s.2.2.2.2.2.1) (cc_em s.2.2.2.2.2.2.1) (cc_em s.2.2.2.2.2.2.2.1) (cc_em s.2.2.2.2.2.2.2.2.1) (cc_em s.2.2.2.2.2.2.2.2.2.1) (cc_em s.2.2.2.2.2.2.2.2.2.2) :=
  br_t hz (cc_turn_v ht (br_t rfl (cc_bel_v hb (cc_bv (fun y => b = y) hx (fun h => cc_281 hp hw h) (fun h => cc_bv (fun y => b = y) h (fun h => cc_bv (fun y => b = y) h (fun h => cc_265 hp hw h) (fun h => cc_281 hp hw h)) (fun h => cc_265 hp hw h))))))
theorem cc_171 {lo hi z0 x7 b1 b : Int32} {s sB sC sD sE sF : cc_S} (hp : post 1 ()) (hl : cc_lowest s = some (lo, sB)) (hlo : lo = x7) (hh : cc_highest sB = some (hi, sC)) (hhi : hi = z0) (hi1 : cc_isl sC x1 = some (b1, sD)) (hb1 : b1 = cc_xi x1 x3 x4) (ht : cc_turn sD = some (x3, sE)) (hb : cc_bel sE 0 x1 = some b) (hx : b = cc_xb x0 x1 x2) (hw : cc_wid sE (((1 : Int32) <<< (x3 &&& 31)) - 1) = some (x5, sF)) : wL_lawOf_171 post mc ms x0 x1 x2 x3 x4 x5 x7 z0 kc ks s.1 s.2.1 (cc_em s.2.2.1) (cc_em s.2.2.2.1) (cc_em s.2.2.2.2.1) (cc_em s.2.2.2.2.2.1) (cc_em s.2.2.2.2.2.2.1) (cc_em s.2.2.2.2.2.2.2.1) (cc_em s.2.2.2.2.2.2.2.2.1) (cc_em s.2.2.2.2.2.2.2.2.2.1) (cc_em s.2.2.2.2.2.2.2.2.2.2) := by
  unfold wL_lawOf_171
  exact cc_lowest_v hl (br_t hlo (cc_highest_v hh (br_t hhi (cc_isl_v hi1 (cc_bv (fun y => b1 = y) hb1 (fun h => cc_227 hp ht hb hx hw h) (fun h => cc_bv (fun y => b1 = y) h (fun h => cc_227 hp ht hb hx hw h) (fun h => cc_bv (fun y => b1 = y) h (fun h => cc_227 hp ht hb hx hw h) (fun h => cc_bv (fun y => b1 = y) h (fun h => cc_227 hp ht hb hx hw h) (fun h => cc_227 hp ht hb hx hw h)))))))))
theorem cc_136 {lo hi x7 b1 b : Int32} {s sB sC sD sE sF : cc_S} (hp : post 1 ()) (hl : cc_lowest s = some (lo, sB)) (hlo : lo = x7) (hh : cc_highest sB = some (hi, sC)) (hhi : hi = cc_xh x0 x2) (hi1 : cc_isl sC x1 = some (b1, sD)) (hb1 : b1 = cc_xi x1 x3 x4) (ht : cc_turn sD = some (x3, sE)) (hb : cc_bel sE 0 x1 = some b) (hx : b = cc_xb x0 x1 x2) (hw : cc_wid sE (((1 : Int32) <<< (x3 &&& 31)) - 1) = some (x5, sF)) : wL_lawOf_136 post mc ms x0 x1 x2 x3 x4 x5 x7 kc ks s.1 s.2.1 (cc_em s.2.2.1) (cc_em s.2.2.2.1) (cc_em s.2.2.2.2.1) (cc_em s.2.2.2.2.2.1) (cc_em s.2.2.2.2.2.2.1) (cc_em s.2.2.2.2.2.2.2.1) (cc_em s.2.2.2.2.2.2.2.2.1) (cc_em s.2.2.2.2.2.2.2.2.2.1) (cc_em s.2.2.2.2.2.2.2.2.2.2) :=
  cc_bv (fun y => hi = y) hhi (fun h => cc_171 hp hl hlo hh h hi1 hb1 ht hb hx hw) (fun h => cc_bv (fun y => hi = y) h (fun h => cc_171 hp hl hlo hh h hi1 hb1 ht hb hx hw) (fun h => cc_bv (fun y => hi = y) h (fun h => cc_171 hp hl hlo hh h hi1 hb1 ht hb hx hw) (fun h => cc_bv (fun y => hi = y) h (fun h => cc_171 hp hl hlo hh h hi1 hb1 ht hb hx hw) (fun h => cc_171 hp hl hlo hh h hi1 hb1 ht hb hx hw))))
theorem cc_100 {z0 z1 : Int32} {s : cc_S} (hp : post 1 ()) (hf : cc_fine s x0 x1 x2 x3 x4 x5) (hz : z1 = z0) : wL_lawOf_100 post mc ms x0 x1 x2 x3 x4 x5 z0 z1 kc ks s.1 s.2.1 (cc_em s.2.2.1) (cc_em s.2.2.2.1) (cc_em s.2.2.2.2.1) (cc_em s.2.2.2.2.2.1) (cc_em s.2.2.2.2.2.2.1) (cc_em s.2.2.2.2.2.2.2.1) (cc_em s.2.2.2.2.2.2.2.2.1) (cc_em s.2.2.2.2.2.2.2.2.2.1) (cc_em s.2.2.2.2.2.2.2.2.2.2) := by
  obtain ⟨sA, sB, sC, sD, sE, sF, lo, hi, b1, b2, hA, hl, hh, hi1, ht, hb, hw, hlo, hhi, hb1, hx⟩ := hf
  exact br_t hz (cc_wid_v hA (br_t rfl (cc_bv (fun y => lo = y) hlo (fun h => cc_136 hp hl h hh hhi hi1 hb1 ht hb hx hw) (fun h => cc_bv (fun y => lo = y) h (fun h => cc_136 hp hl h hh hhi hi1 hb1 ht hb hx hw) (fun h => cc_136 hp hl h hh hhi hi1 hb1 ht hb hx hw)))))
theorem cc_50 {r : Int32} {s : cc_S} (hp : post 1 ()) (ha : cc_add cc_s2 x0 = some (r, s)) (hr : r = if x2 = 0 then -1 else 3) (hf : cc_fine s x0 x1 x2 x3 x4 x5) : wL_lawOf_50 post 50 784 x0 x1 x2 x3 x4 x5 0 0 := by
  refine And.intro (by decide) (And.intro (by decide) (Exists.intro 9 (Exists.intro 90 (And.intro (by decide) (And.intro (by decide) ?_)))))
  unfold wpX_init
  refine ⟨by decide, by decide, by decide, by decide, by decide, by decide, by decide, by decide, by decide, by decide, by decide, by decide, by decide, by decide, by decide, by decide, by decide, by decide, ?_⟩
  exact cc_add_v (s := cc_s0) cc_h1 (br_t rfl (cc_add_v cc_h2 (br_t rfl (cc_add_v ha (cc_bv (fun y => r = y) hr (fun h => cc_100 hp hf h) (fun h => cc_100 hp hf h))))))
end
theorem cc_c4 {x : Int32} (h0 : ¬ x < 0) (h3 : ¬ 3 < x) : x = 0 ∨ x = 1 ∨ x = 2 ∨ x = 3 := by
  obtain ⟨j, hj, e⟩ := nI_of2 (M := 3) (n := 3) (by decide) h0 (Int32.not_lt.mp h3)
  subst e
  have hj' : j = 0 ∨ j = 1 ∨ j = 2 ∨ j = 3 := by omega
  rcases hj' with e | e | e | e <;> subst e <;> decide
theorem cc_split {P : Int32 → Prop} {n : Int32} (x : Int32) (hn : n = 2 ∨ n = 3) (h0 : P 0) (h1 : P 1) (h2 : n = 3 → P 2) (ho : ∀ y, y < 0 ∨ n ≤ y → P y) : P x := by
  by_cases g0 : x < 0
  · exact ho x (Or.inl g0)
  by_cases gn : n ≤ x
  · exact ho x (Or.inr gn)
  have g3 : ¬ 3 < x := by
    intro z
    rcases hn with e | e
    · subst e
      exact gn (Int32.le_of_lt (Int32.lt_trans (by decide) z))
    · subst e
      exact gn (Int32.le_of_lt z)
  rcases cc_c4 g0 g3 with e | e | e | e
  · exact e ▸ h0
  · exact e ▸ h1
  · rcases hn with d | d
    · subst d
      exact absurd (e ▸ Int32.le_refl _ : (2 : Int32) ≤ x) gn
    · exact e ▸ h2 d
  · refine absurd ?_ gn
    rcases hn with d | d <;> subst d <;> subst e <;> decide
theorem cc_lawOf {post : Int32 → St0 → Prop} (hp : post 1 ()) (p0 p1 : Int32) : wpL_lawOf post 50 784 () p0 p1 := by
  have hbad : p0 < 0 ∨ 3 < p0 → wL_lawOf_13 post 50 784 p0 p1 0 0 := by
    intro h
    have h3 : ¬ p0 = 3 := fun z => absurd (z ▸ h : (3 : Int32) < 0 ∨ (3 : Int32) < 3) (by decide)
    have hi : cc_iss cc_s2.1 p0 = 0 := by
      unfold cc_iss
      by_cases h1 : p0 < 0
      · rw [if_pos h1]
      · have h4 : ((1 : Int32) <<< (cc_s2.1 &&& 31)) ≤ p0 := by
          have h5 := h.resolve_left h1
          rw [show ((1 : Int32) <<< (cc_s2.1 &&& 31)) = 4 by decide]
          rw [Int32.le_iff_toInt_le]
          rw [Int32.lt_iff_toInt_lt] at h5
          have e3 : (3 : Int32).toInt = 3 := by decide
          have e4 : (4 : Int32).toInt = 4 := by decide
          omega
        rw [if_neg h1, if_pos h4]
    have ha : cc_add cc_s2 p0 = some (-1, cc_s2) := by
      unfold cc_add
      rw [if_pos (by decide), if_pos hi]
    have hf : cc_fine cc_s2 p0 p1 0 2 0 2 := cc_split (P := fun y => cc_fine cc_s2 p0 y 0 2 0 2) (n := 2) p1 (Or.inl rfl) (cc_f_b_0 p0) (cc_f_b_1 p0) (fun z => absurd z (by decide)) (fun y hy => cc_f_b_o p0 y hy)
    exact br_t rfl (br_f h3 (br_t rfl (cc_50 hp ha (by decide) hf)))
  refine br_c (fun h => hbad (Or.inl h)) (fun h0 => br_c (fun h => hbad (Or.inr h)) (fun h3 => ?_))
  refine br_f (by decide) ?_
  rcases cc_c4 h0 h3 with e | e | e | e
  · subst e
    exact br_f (by decide) (br_f (by decide) (br_t rfl (cc_50 hp cc_h3_0 (by decide) (cc_split (P := fun y => cc_fine cc_s3_0 0 y 1 3 0 3) (n := 3) p1 (Or.inr rfl) cc_f_0_0 cc_f_0_1 (fun _ => cc_f_0_2) (fun y hy => cc_f_0_o y hy)))))
  · subst e
    exact br_f (by decide) (br_f (by decide) (br_f (by decide) (cc_50 hp cc_h3_1 (by decide) (cc_split (P := fun y => cc_fine cc_s3_1 1 y 1 3 0 2) (n := 3) p1 (Or.inr rfl) cc_f_1_0 cc_f_1_1 (fun _ => cc_f_1_2) (fun y hy => cc_f_1_o y hy)))))
  · subst e
    exact br_f (by decide) (br_f (by decide) (br_f (by decide) (cc_50 hp cc_h3_2 (by decide) (cc_split (P := fun y => cc_fine cc_s3_2 2 y 1 3 0 2) (n := 3) p1 (Or.inr rfl) cc_f_2_0 cc_f_2_1 (fun _ => cc_f_2_2) (fun y hy => cc_f_2_o y hy)))))
  · subst e
    exact br_t rfl (br_f (by decide) (br_f (by decide) (cc_50 hp cc_h3_3 (by decide) (cc_split (P := fun y => cc_fine cc_s3_3 3 y 1 3 1 2) (n := 3) p1 (Or.inr rfl) cc_f_3_0 cc_f_3_1 (fun _ => cc_f_3_2) (fun y hy => cc_f_3_o y hy)))))
theorem cc_cell {post : Int32 → Prop} {L : Nat} {xs : Nat → Int32} {p : Int32} (n : Nat) (hL : L ≤ 2) (hn : n < 2) (hpn : p = nI n) (H : ∀ r, post r) : wpL_cellAt post L xs () p :=
  pk_le L n (fun _ => H _) (fun h => ⟨pk_in n L h hpn, H _⟩) rfl hpn
theorem i_vc (xs : Nat → Int32) (L : Nat) (hL : L ≤ 2) : wpL_law (fun r => r = 1) L xs :=
  cc_cell 0 hL (by decide) rfl (fun r1 => cc_cell 1 hL (by decide) rfl (fun r2 => ⟨50, 784, by decide, by decide, cc_lawOf rfl r1 r2⟩))
end

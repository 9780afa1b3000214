section
/-- groups not closed ahead of piece i, the innermost first -/
def ps_st (so : Nat → Int32) : Nat → List Nat
  | 0 => []
  | i + 1 => if so i = 2 then i :: ps_st so i else if so i = 3 then (ps_st so i).tail else ps_st so i
theorem ps_st_2 {so : Nat → Int32} {i : Nat} (h : so i = 2) : ps_st so (i + 1) = i :: ps_st so i := if_pos h
theorem ps_n2 {x : Int32} (h : x = 3) : ¬ x = 2 := by rw [h]; decide
theorem ps_st_3 {so : Nat → Int32} {i : Nat} (h : so i = 3) : ps_st so (i + 1) = (ps_st so i).tail :=
  (if_neg (ps_n2 h)).trans (if_pos h)
theorem ps_st_n {so : Nat → Int32} {i : Nat} (h2 : ¬ so i = 2) (h3 : ¬ so i = 3) : ps_st so (i + 1) = ps_st so i :=
  (if_neg h2).trans (if_neg h3)
theorem ps_st_el {so : Nat → Int32} : ∀ (i j : Nat), j ∈ ps_st so i → j < i ∧ so j = 2 := by
  intro i
  induction i with
  | zero =>
    intro j hj
    exact absurd hj (by simp [ps_st])
  | succ i ih =>
    intro j hj
    by_cases h2 : so i = 2
    · rw [ps_st_2 h2] at hj
      rcases List.mem_cons.mp hj with e | e
      · exact ⟨by omega, by rw [e]; exact h2⟩
      · exact ⟨by have := (ih j e).1; omega, (ih j e).2⟩
    · by_cases h3 : so i = 3
      · rw [ps_st_3 h3] at hj
        have e := List.mem_of_mem_tail hj
        exact ⟨by have := (ih j e).1; omega, (ih j e).2⟩
      · rw [ps_st_n h2 h3] at hj
        exact ⟨by have := (ih j hj).1; omega, (ih j hj).2⟩
theorem ps_st_cg {so so' : Nat → Int32} : ∀ (i : Nat), (∀ j, j < i → so' j = so j) → ps_st so' i = ps_st so i := by
  intro i
  induction i with
  | zero => intro _; rfl
  | succ i ih =>
    intro h
    have e1 := h i (by omega)
    have e2 := ih (fun j hj => h j (by omega))
    by_cases h2 : so i = 2
    · rw [ps_st_2 h2, ps_st_2 (e1.trans h2), e2]
    · by_cases h3 : so i = 3
      · rw [ps_st_3 h3, ps_st_3 (e1.trans h3), e2]
      · rw [ps_st_n h2 h3, ps_st_n (by rw [e1]; exact h2) (by rw [e1]; exact h3), e2]
/-- f at the innermost group, 0 outside all groups -/
def ps_hd (f : Nat → Int32) : List Nat → Int32
  | [] => 0
  | h :: _ => f h
theorem ps_hd_cg {f g : Nat → Int32} {l : List Nat} (h : ∀ j, j ∈ l → f j = g j) : ps_hd f l = ps_hd g l := by
  cases l with
  | nil => rfl
  | cons a t => exact h a (by simp)
/-- rows ended ahead of piece i, by the flat marks F -/
def ps_rr (so F : Nat → Int32) : Nat → Nat
  | 0 => 0
  | i + 1 => if so i = 1 ∧ ps_hd F (ps_st so i) = 0 then ps_rr so F i + 1 else ps_rr so F i
theorem ps_rr_1 {so F : Nat → Int32} {i : Nat} (h : so i = 1) (hd : ps_hd F (ps_st so i) = 0) : ps_rr so F (i + 1) = ps_rr so F i + 1 :=
  if_pos ⟨h, hd⟩
theorem ps_rr_k {so F : Nat → Int32} {i : Nat} (h : so i = 1 → ¬ ps_hd F (ps_st so i) = 0) : ps_rr so F (i + 1) = ps_rr so F i :=
  if_neg (fun z => h z.1 z.2)
theorem ps_rr_le {so F : Nat → Int32} (i : Nat) : ps_rr so F i ≤ i := by
  induction i with
  | zero => exact Nat.le_refl 0
  | succ i ih =>
    by_cases h : so i = 1 ∧ ps_hd F (ps_st so i) = 0
    · rw [ps_rr_1 h.1 h.2]; omega
    · rw [ps_rr_k (fun a b => h ⟨a, b⟩)]; omega
theorem ps_rr_cg {so F G : Nat → Int32} : ∀ (i : Nat), (∀ j, j < i → so j = 2 → F j = G j) → ps_rr so F i = ps_rr so G i := by
  intro i
  induction i with
  | zero => intro _; rfl
  | succ i ih =>
    intro h
    have e2 := ih (fun j hj => h j (by omega))
    have e3 : ps_hd F (ps_st so i) = ps_hd G (ps_st so i) := ps_hd_cg (fun j hj => h j (by have := (ps_st_el i j hj).1; omega) (ps_st_el i j hj).2)
    by_cases hc : so i = 1 ∧ ps_hd F (ps_st so i) = 0
    · rw [ps_rr_1 hc.1 hc.2, ps_rr_1 hc.1 (e3 ▸ hc.2), e2]
    · rw [ps_rr_k (fun a b => hc ⟨a, b⟩), ps_rr_k (fun a b => hc ⟨a, e3.trans b⟩), e2]
/-- pieces as they may stand -/
def ps_wf (so : Nat → Int32) (n : Nat) : Prop :=
  n ≤ 60 ∧ (∀ i, i < n → so i = 0 ∨ so i = 1 ∨ so i = 2 ∨ so i = 3) ∧ (∀ i, i < n → so i = 3 → ¬ ps_st so i = []) ∧ (∀ i, i ≤ n → (ps_st so i).length ≤ 12)
/-- the array holds the list as a stack -/
def ps_sk (a : Nat → Int32) : List Nat → Prop
  | [] => True
  | h :: t => a t.length = nI h ∧ ps_sk a t
theorem ps_sk_tl {a : Nat → Int32} {l : List Nat} (h : ps_sk a l) : ps_sk a l.tail := by
  cases l with
  | nil => exact trivial
  | cons b t => exact h.2
theorem ps_sk_up {a : Nat → Int32} {k : Nat} {x : Int32} : ∀ (l : List Nat), l.length ≤ k → ps_sk a l → ps_sk (upd a k x) l := by
  intro l
  induction l with
  | nil => intro _ _; exact trivial
  | cons b t ih =>
    intro hk h
    have hk' : t.length + 1 ≤ k := hk
    exact ⟨(pk_un (by omega)).trans h.1, ih (by omega) h.2⟩
theorem ps_sk_push {a : Nat → Int32} {l : List Nat} {p : Nat} (h : ps_sk a l) : ps_sk (upd a l.length (nI p)) (p :: l) :=
  ⟨pk_us, ps_sk_up l (Nat.le_refl _) h⟩
theorem ps_sk_at {a : Nat → Int32} : ∀ (l : List Nat), ps_sk a l → ∀ d, d < l.length → ∃ j, j ∈ l ∧ a d = nI j := by
  intro l
  induction l with
  | nil => intro _ d hd; exact absurd hd (by simp)
  | cons b t ih =>
    intro h d hd
    have hd' : d < t.length + 1 := hd
    by_cases e : d = t.length
    · exact ⟨b, by simp, by rw [e]; exact h.1⟩
    · obtain ⟨j, hj, ej⟩ := ih h.2 d (by omega)
      exact ⟨j, by simp [hj], ej⟩
/-- one piece laid out: column, flat marks, margins -/
def ps_ls (so sz re : Nat → Int32) (w : Int32) (p : Nat) (s : Int32 × (Nat → Int32) × (Nat → Int32)) : Int32 × (Nat → Int32) × (Nat → Int32) :=
  if so p = 2 then (s.1, upd s.2.1 p (if ps_hd s.2.1 (ps_st so p) = 0 then (if w < s.1 + re p then 0 else 1) else 1), upd s.2.2 p (ps_hd s.2.2 (ps_st so p) + sz p))
  else if so p = 3 then s
  else if so p = 1 ∧ ps_hd s.2.1 (ps_st so p) = 0 then (ps_hd s.2.2 (ps_st so p), s.2)
  else (s.1 + sz p, s.2)
/-- the layout ahead of piece p -/
def ps_ly (so sz re : Nat → Int32) (w : Int32) : Nat → Int32 × (Nat → Int32) × (Nat → Int32)
  | 0 => (0, fun _ => 0, fun _ => 0)
  | p + 1 => ps_ls so sz re w p (ps_ly so sz re w p)
/-- rows ended by all n pieces at width w -/
def ps_LR (so sz re : Nat → Int32) (w : Int32) (n : Nat) : Nat := ps_rr so (ps_ly so sz re w n).2.1 n
section
variable {so sz re : Nat → Int32} {w : Int32} {p : Nat}
theorem ps_ly_2 (h : so p = 2) : ps_ly so sz re w (p + 1) = ((ps_ly so sz re w p).1, upd (ps_ly so sz re w p).2.1 p (if ps_hd (ps_ly so sz re w p).2.1 (ps_st so p) = 0 then (if w < (ps_ly so sz re w p).1 + re p then 0 else 1) else 1), upd (ps_ly so sz re w p).2.2 p (ps_hd (ps_ly so sz re w p).2.2 (ps_st so p) + sz p)) :=
  if_pos h
theorem ps_ly_3 (h : so p = 3) : ps_ly so sz re w (p + 1) = ps_ly so sz re w p :=
  (if_neg (ps_n2 h)).trans (if_pos h)
theorem ps_ly_1 (h : so p = 1) (hd : ps_hd (ps_ly so sz re w p).2.1 (ps_st so p) = 0) : ps_ly so sz re w (p + 1) = (ps_hd (ps_ly so sz re w p).2.2 (ps_st so p), (ps_ly so sz re w p).2) :=
  (if_neg (by rw [h]; decide)).trans ((if_neg (by rw [h]; decide)).trans (if_pos ⟨h, hd⟩))
theorem ps_ly_0 (h2 : ¬ so p = 2) (h3 : ¬ so p = 3) (hd : so p = 1 → ¬ ps_hd (ps_ly so sz re w p).2.1 (ps_st so p) = 0) : ps_ly so sz re w (p + 1) = ((ps_ly so sz re w p).1 + sz p, (ps_ly so sz re w p).2) :=
  (if_neg h2).trans ((if_neg h3).trans (if_neg (fun z => hd z.1 z.2)))
theorem ps_ly_n (h2 : ¬ so p = 2) : (ps_ly so sz re w (p + 1)).2 = (ps_ly so sz re w p).2 := by
  by_cases h3 : so p = 3
  · rw [ps_ly_3 h3]
  · by_cases h1 : so p = 1 ∧ ps_hd (ps_ly so sz re w p).2.1 (ps_st so p) = 0
    · rw [ps_ly_1 h1.1 h1.2]
    · rw [ps_ly_0 h2 h3 (fun a b => h1 ⟨a, b⟩)]
end
/-- what the arrays hold ahead of piece p -/
def ps_LI (so sz re : Nat → Int32) (w : Int32) (p : Nat) (a5 a7 a9 a10 : Nat → Int32) : Prop :=
  ps_sk a5 (ps_st so p) ∧ (∀ i, i < p → so i = 2 → a9 i = (ps_ly so sz re w p).2.1 i ∧ a10 i = (ps_ly so sz re w p).2.2 i) ∧ (∀ i, i < p → a7 i = nI (ps_rr so a9 i)) ∧ (∀ i, i < p → so i = 2 → ¬ ps_hd a9 (ps_st so i) = 0 → ¬ a9 i = 0)
/-- what a laid-out state holds -/
def ps_LF (so : Nat → Int32) (n : Nat) (lr : Int32) (a7 a9 : Nat → Int32) : Prop :=
  (∀ i, i < n → so i = 2 → ¬ ps_hd a9 (ps_st so i) = 0 → ¬ a9 i = 0) ∧ (∀ i, i < n → a7 i = nI (ps_rr so a9 i)) ∧ lr = nI (ps_rr so a9 n)
section
variable {so sz re : Nat → Int32} {w : Int32} {p : Nat} {a5 a7 a9 a10 : Nat → Int32}
theorem ps_LI_h9 (h : ps_LI so sz re w p a5 a7 a9 a10) : ps_hd a9 (ps_st so p) = ps_hd (ps_ly so sz re w p).2.1 (ps_st so p) :=
  ps_hd_cg (fun j hj => (h.2.1 j (ps_st_el p j hj).1 (ps_st_el p j hj).2).1)
theorem ps_LI_h10 (h : ps_LI so sz re w p a5 a7 a9 a10) : ps_hd a10 (ps_st so p) = ps_hd (ps_ly so sz re w p).2.2 (ps_st so p) :=
  ps_hd_cg (fun j hj => (h.2.1 j (ps_st_el p j hj).1 (ps_st_el p j hj).2).2)
theorem ps_LI_r (h : ps_LI so sz re w p a5 a7 a9 a10) : ps_rr so a9 p = ps_LR so sz re w p :=
  ps_rr_cg p (fun j hj h2 => (h.2.1 j hj h2).1)
theorem ps_LI_0 : ps_LI so sz re w 0 a5 a7 a9 a10 :=
  ⟨trivial, fun i hi => absurd hi (by omega), fun i hi => absurd hi (by omega), fun i hi => absurd hi (by omega)⟩
theorem ps_rr_u {v : Int32} {i : Nat} (hi : i ≤ p) : ps_rr so (upd a9 p v) i = ps_rr so a9 i :=
  ps_rr_cg i (fun j hj _ => pk_un (by omega))
theorem ps_LI_2 {v m : Int32} (h : ps_LI so sz re w p a5 a7 a9 a10) (h2 : so p = 2)
    (hv : v = if ps_hd a9 (ps_st so p) = 0 then (if w < (ps_ly so sz re w p).1 + re p then 0 else 1) else 1) (hm : m = ps_hd a10 (ps_st so p) + sz p) :
    ps_LI so sz re w (p + 1) (upd a5 (ps_st so p).length (nI p)) (upd a7 p (nI (ps_rr so a9 p))) (upd a9 p v) (upd a10 p m) := by
  have e9 := ps_LI_h9 h
  have e10 := ps_LI_h10 h
  obtain ⟨k5, kF, k7, kh⟩ := h
  refine ⟨?_, ?_, ?_, ?_⟩
  · rw [ps_st_2 h2]
    exact ps_sk_push k5
  · intro i hi hi2
    rw [ps_ly_2 h2]
    dsimp only
    by_cases e : i = p
    · subst e
      rw [pk_us, pk_us, pk_us, pk_us, hv, hm, e9, e10]
      exact ⟨rfl, rfl⟩
    · rw [pk_un e, pk_un e, pk_un e, pk_un e]
      exact kF i (by omega) hi2
  · intro i hi
    rw [ps_rr_u (show i ≤ p by omega)]
    by_cases e : i = p
    · subst e
      exact pk_us
    · rw [pk_un e]
      exact k7 i (by omega)
  · intro i hi hi2 hh
    rw [ps_hd_cg (g := a9) (fun j hj => pk_un (by have := (ps_st_el i j hj).1; omega))] at hh
    by_cases e : i = p
    · subst e
      rw [pk_us, hv, if_neg hh]
      decide
    · rw [pk_un e]
      exact kh i (by omega) hi2 hh
theorem ps_LI_n (h : ps_LI so sz re w p a5 a7 a9 a10) (h2 : ¬ so p = 2) :
    ps_LI so sz re w (p + 1) a5 (upd a7 p (nI (ps_rr so a9 p))) a9 a10 := by
  obtain ⟨k5, kF, k7, kh⟩ := h
  refine ⟨?_, ?_, ?_, ?_⟩
  · by_cases h3 : so p = 3
    · rw [ps_st_3 h3]
      exact ps_sk_tl k5
    · rw [ps_st_n h2 h3]
      exact k5
  · intro i hi hi2
    rw [ps_ly_n h2]
    exact kF i (by rcases Nat.lt_or_ge i p with z | z; exact z; exact absurd hi2 (by rw [show i = p by omega]; exact h2)) hi2
  · intro i hi
    by_cases e : i = p
    · subst e
      exact pk_us
    · rw [pk_un e]
      exact k7 i (by omega)
  · intro i hi hi2 hh
    exact kh i (by rcases Nat.lt_or_ge i p with z | z; exact z; exact absurd hi2 (by rw [show i = p by omega]; exact h2)) hi2 hh
end
end
section
/-- the piece inside which we are: -1 or the innermost group -/
def ps_z (z : Int32) : List Nat → Prop
  | [] => z = -1
  | h :: _ => h < 60 ∧ z = nI h
section
variable {post : St1 → Prop} {J : Int32 → Int32 → Int32 → Int32 → Int32 → (Nat → Int32) → (Nat → Int32) → (Nat → Int32) → (Nat → Int32) → (Nat → Int32) → (Nat → Int32) → (Nat → Int32) → (Nat → Int32) → (Nat → Int32) → (Nat → Int32) → Prop} {w x2 x3 x4 z v pw pc uc me la lr gc : Int32} {a1 a2 a3 a4 a5 a6 a7 a8 a9 a10 : Nat → Int32} {p d : Nat} {st : List Nat}
theorem ps_l232 (H : ∀ g, J x2 x3 x4 (nI (p + 1)) g a1 a2 a3 a4 a5 a6 a7 a8 a9 a10) : wX_layOut_232 post J w x2 x3 x4 (nI p) pw pc uc me la lr gc a1 a2 a3 a4 a5 a6 a7 a8 a9 a10 := by
  unfold wX_layOut_232
  exact br_c (fun _ => nm_r (nI_1 p) (H _)) (fun _ => nm_r (nI_1 p) (H _))
theorem ps_l199 (hp : p < 60) (H : ∀ g, J x2 (x3 + a2 p) x4 (nI (p + 1)) g a1 a2 a3 a4 a5 a6 a7 a8 a9 a10) : wX_layOut_199 post J w x2 x3 x4 (nI p) pw pc uc me la lr gc a1 a2 a3 a4 a5 a6 a7 a8 a9 a10 := by
  unfold wX_layOut_199
  rw [nI_clamp (show p < 2 ^ 31 by omega)]
  exact ⟨pk_in p 60 hp, nm_e (ps_l232 H)⟩
theorem ps_l212 (hz : ps_z z st) (H : ∀ g, J (x2 + 1) (ps_hd a10 st) x4 (nI (p + 1)) g a1 a2 a3 a4 a5 a6 a7 a8 a9 a10) : wX_layOut_212 post J w x2 x4 (nI p) z pw pc uc me la lr gc a1 a2 a3 a4 a5 a6 a7 a8 a9 a10 := by
  unfold wX_layOut_212 wX_layOut_231
  refine nm_e ?_
  cases st with
  | nil =>
    have e : z = -1 := hz
    subst e
    exact br_f (by decide) (ps_l232 H)
  | cons h t =>
    obtain ⟨hh, e⟩ : h < 60 ∧ z = nI h := hz
    subst e
    rw [nI_clamp (show h < 2 ^ 31 by omega)]
    exact br_t (nI_pos' (by omega)) ⟨pk_in h 60 hh, ps_l232 H⟩
theorem ps_l133 (hp : p < 60) (hd : d < 12) (H : ∀ g, J x2 x3 (nI (d + 1)) (nI (p + 1)) g a1 a2 a3 a4 (upd a5 d (nI p)) a6 a7 a8 a9 (upd a10 p (z + a2 p))) : wX_layOut_133 post J w x2 x3 (nI d) (nI p) z (nI p) pw pc uc me la lr gc a1 a2 a3 a4 a5 a6 a7 a8 a9 a10 := by
  unfold wX_layOut_133
  rw [nI_clamp (show p < 2 ^ 31 by omega), nI_clamp (show d < 2 ^ 31 by omega)]
  exact ⟨pk_in p 60 hp, pk_in p 60 hp, nm_e ⟨pk_in d 12 hd, nm_e (nm_r (nI_1 d) (ps_l232 H))⟩⟩
theorem ps_l110 (hp : p < 60) (hd : d < 12) (hz : ps_z z st) (hv : vp_nar .boolean v = v) (H : ∀ g, J x2 x3 (nI (d + 1)) (nI (p + 1)) g a1 a2 a3 a4 (upd a5 d (nI p)) a6 a7 a8 (upd a9 p v) (upd a10 p (ps_hd a10 st + a2 p))) : wX_layOut_110 post J w x2 x3 (nI d) (nI p) z v (nI p) pw pc uc me la lr gc a1 a2 a3 a4 a5 a6 a7 a8 a9 a10 := by
  unfold wX_layOut_110
  rw [nI_clamp (show p < 2 ^ 31 by omega), hv]
  refine ⟨pk_in p 60 hp, nm_e ?_⟩
  cases st with
  | nil =>
    have e : z = -1 := hz
    subst e
    exact br_f (by decide) (ps_l133 hp hd H)
  | cons h t =>
    obtain ⟨hh, e⟩ : h < 60 ∧ z = nI h := hz
    subst e
    rw [nI_clamp (show h < 2 ^ 31 by omega)]
    exact br_t (nI_pos' (by omega)) ⟨pk_in h 60 hh, ps_l133 hp hd H⟩
theorem ps_l92 (hp : p < 60) (hd : d < 12) (hz : ps_z z st) (h0 : ps_hd a9 st = 0) (H : ∀ v, v = (if ps_hd a9 st = 0 then (if w < x3 + a3 p then 0 else 1) else 1) → ∀ g, J x2 x3 (nI (d + 1)) (nI (p + 1)) g a1 a2 a3 a4 (upd a5 d (nI p)) a6 a7 a8 (upd a9 p v) (upd a10 p (ps_hd a10 st + a2 p))) : wX_layOut_92 post J w x2 x3 (nI d) (nI p) z (nI p) pw pc uc me la lr gc a1 a2 a3 a4 a5 a6 a7 a8 a9 a10 := by
  unfold wX_layOut_92 wX_layOut_105
  rw [nI_clamp (show p < 2 ^ 31 by omega)]
  rw [if_pos h0] at H
  exact ⟨pk_in p 60 hp, br_c (fun c => ps_l110 hp hd hz (by rfl) (H 0 (if_pos c).symm)) (fun c => ps_l110 hp hd hz (by rfl) (H 1 (if_neg c).symm))⟩
theorem ps_l58 (hp : p < 60) (hz : ps_z z st)
    (H2 : a1 p = 2 → d < 12 ∧ ∀ v, v = (if ps_hd a9 st = 0 then (if w < x3 + a3 p then 0 else 1) else 1) → ∀ g, J x2 x3 (nI (d + 1)) (nI (p + 1)) g a1 a2 a3 a4 (upd a5 d (nI p)) a6 a7 a8 (upd a9 p v) (upd a10 p (ps_hd a10 st + a2 p)))
    (H3 : a1 p = 3 → ∀ g, J x2 x3 (nI d + (-1)) (nI (p + 1)) g a1 a2 a3 a4 a5 a6 a7 a8 a9 a10)
    (H0 : ¬ a1 p = 2 → ¬ a1 p = 3 → (a1 p = 0 ∨ ¬ ps_hd a9 st = 0) → ∀ g, J x2 (x3 + a2 p) (nI d) (nI (p + 1)) g a1 a2 a3 a4 a5 a6 a7 a8 a9 a10)
    (H1 : ¬ a1 p = 2 → ¬ a1 p = 3 → ¬ a1 p = 0 → ps_hd a9 st = 0 → ∀ g, J (x2 + 1) (ps_hd a10 st) (nI d) (nI (p + 1)) g a1 a2 a3 a4 a5 a6 a7 a8 a9 a10) :
    wX_layOut_58 post J w x2 x3 (nI d) (nI p) z pw pc uc me la lr gc a1 a2 a3 a4 a5 a6 a7 a8 a9 a10 := by
  unfold wX_layOut_58 wX_layOut_105
  rw [nI_clamp (show p < 2 ^ 31 by omega)]
  refine ⟨pk_in p 60 hp, br_c (fun e2 => ?_) (fun n2 => ⟨pk_in p 60 hp, br_c (fun e3 => nm_e (ps_l232 (H3 e3))) (fun n3 => ⟨pk_in p 60 hp, br_c (fun e0 => ps_l199 hp (H0 n2 n3 (Or.inl e0))) (fun n0 => ?_)⟩)⟩)⟩
  · obtain ⟨hd, H2⟩ := H2 e2
    cases st with
    | nil =>
      have e : z = -1 := hz
      subst e
      exact br_t (by decide) (ps_l92 hp hd hz rfl H2)
    | cons h t =>
      have hz' := hz
      obtain ⟨hh, e⟩ : h < 60 ∧ z = nI h := hz
      subst e
      rw [nI_clamp (show h < 2 ^ 31 by omega)]
      refine br_f (nI_pos (by omega)) ⟨pk_in h 60 hh, br_c (fun e9 => ps_l92 hp hd hz' e9 H2) (fun n9 => ps_l110 hp hd hz' (by rfl) (H2 1 (if_neg n9).symm))⟩
  · cases st with
    | nil =>
      have e : z = -1 := hz
      subst e
      exact br_t (by decide) (ps_l212 hz (H1 n2 n3 n0 rfl))
    | cons h t =>
      have hz' := hz
      obtain ⟨hh, e⟩ : h < 60 ∧ z = nI h := hz
      subst e
      rw [nI_clamp (show h < 2 ^ 31 by omega)]
      refine br_f (nI_pos (by omega)) ⟨pk_in h 60 hh, br_c (fun e9 => ps_l212 hz' (H1 n2 n3 n0 e9)) (fun n9 => ps_l199 hp (H0 n2 n3 (Or.inr n9)))⟩
end
section
variable {post : St1 → Prop} {w pw uc me la lr gc : Int32} {so a2 a3 a4 a5 a6 a7 a8 a9 a10 : Nat → Int32} {n : Nat}
theorem ps_lay_loop (wf : ps_wf so n)
    (H : ∀ (gc : Int32) (a5 a7 a8 a9 a10 : Nat → Int32), ps_LI so a2 a3 w n a5 a7 a9 a10 → post (pw, (nI n), uc, me, la, nI (ps_rr so a9 n), gc, so, a2, a3, a4, a5, a6, a7, a8, a9, a10)) :
    ∀ (f p : Nat), p ≤ n → n - p < f → ∀ (gc : Int32) (a5 a7 a8 a9 a10 : Nat → Int32), ps_LI so a2 a3 w p a5 a7 a9 a10 →
      wX_layOut_15 post w pw (nI n) uc me la lr f (nI (ps_rr so a9 p)) (ps_ly so a2 a3 w p).1 (nI (ps_st so p).length) (nI p) gc so a2 a3 a4 a5 a6 a7 a8 a9 a10 := by
  have hn := wf.1
  intro f
  induction f with
  | zero => intro p _ h; exact absurd h (by omega)
  | succ f ih =>
    intro p hp hf gc a5 a7 a8 a9 a10 hI
    refine pk_le n p (fun z => ?_) (fun z => ⟨pk_in p 60 (by omega), nm_r (e' := upd a7 p (nI (ps_rr so a9 p))) (by rw [nI_clamp (by omega)]) ⟨pk_in p 60 (by omega), nm_r (e' := upd a8 p (ps_ly so a2 a3 w p).1) (by rw [nI_clamp (by omega)]) ?_⟩⟩)
    · have e : p = n := by omega
      subst e
      exact H gc a5 a7 a8 a9 a10 hI
    · have key : ∀ z, ps_z z (ps_st so p) → wX_layOut_58 post (wX_layOut_15 post w pw (nI n) uc me la lr f) w (nI (ps_rr so a9 p)) (ps_ly so a2 a3 w p).1 (nI (ps_st so p).length) (nI p) z pw (nI n) uc me la lr gc so a2 a3 a4 a5 a6 (upd a7 p (nI (ps_rr so a9 p))) (upd a8 p (ps_ly so a2 a3 w p).1) a9 a10 := by
        intro z0 hz
        refine ps_l58 (by omega) hz (fun h2 => ⟨?_, fun v hv g => ?_⟩) (fun h3 g => ?_) (fun n2 n3 hc g => ?_) (fun n2 n3 n0 hc g => ?_)
        · have := wf.2.2.2 (p + 1) (by omega)
          rw [ps_st_2 h2] at this
          exact this
        · have t := ih (p + 1) (by omega) (by omega) g _ _ (upd a8 p (ps_ly so a2 a3 w p).1) _ _ (ps_LI_2 hI h2 hv rfl)
          rw [ps_rr_k (fun z => absurd z (by rw [h2]; decide)), ps_rr_u (Nat.le_refl p), ps_ly_2 h2, ps_st_2 h2] at t
          exact t
        · have t := ih (p + 1) (by omega) (by omega) g _ _ (upd a8 p (ps_ly so a2 a3 w p).1) _ _ (ps_LI_n hI (ps_n2 h3))
          have hne := wf.2.2.1 p (by omega) h3
          rw [ps_rr_k (fun z => absurd z (by rw [h3]; decide)), ps_ly_3 h3, ps_st_3 h3] at t
          rcases hst : ps_st so p with _ | ⟨h, tl⟩
          · exact absurd hst hne
          · rw [hst] at t
            rw [show nI (h :: tl).length + (-1) = nI tl.length from pk_m1 _]
            exact t
        · have t := ih (p + 1) (by omega) (by omega) g _ _ (upd a8 p (ps_ly so a2 a3 w p).1) _ _ (ps_LI_n hI n2)
          have hk : so p = 1 → ¬ ps_hd a9 (ps_st so p) = 0 := by
            intro h1
            rcases hc with h0 | h0
            · rw [h0] at h1; exact absurd h1 (by decide)
            · exact h0
          rw [ps_rr_k hk, ps_ly_0 n2 n3 (by rw [← ps_LI_h9 hI]; exact hk), ps_st_n n2 n3] at t
          exact t
        · have t := ih (p + 1) (by omega) (by omega) g _ _ (upd a8 p (ps_ly so a2 a3 w p).1) _ _ (ps_LI_n hI n2)
          have h1 : so p = 1 := by
            rcases wf.2.1 p (by omega) with e | e | e | e
            · exact absurd e n0
            · exact e
            · exact absurd e n2
            · exact absurd e n3
          rw [ps_rr_1 h1 hc, ps_ly_1 h1 (by rw [← ps_LI_h9 hI]; exact hc), ps_st_n n2 n3, ← ps_LI_h10 hI, ← nI_1] at t
          exact t
      rcases hst : ps_st so p with _ | ⟨h, t⟩
      · rw [hst] at key
        exact br_t rfl (key (-1) rfl)
      · have hh := (ps_st_el p h (by rw [hst]; simp)).1
        have h5 := hI.1
        have hl := wf.2.2.2 p (by omega)
        rw [hst] at key h5 hl
        have hl' : t.length + 1 ≤ 12 := hl
        have e : nI (h :: t).length - 1 = nI t.length := nI_pred t.length
        refine br_f (nI_ne0 (by simp) (by omega)) ?_
        rw [e, nI_clamp (show t.length < 2 ^ 31 by omega)]
        exact ⟨pk_in t.length 12 (by omega), key _ ⟨by omega, h5.1⟩⟩
theorem ps_layOut (wf : ps_wf so n)
    (H : ∀ (gc' : Int32) (a5' a7' a8' a9' a10' : Nat → Int32), ps_LF so n (nI (ps_LR so a2 a3 w n)) a7' a9' → post (pw, (nI n), uc, me, la, nI (ps_LR so a2 a3 w n), gc', so, a2, a3, a4, a5', a6, a7', a8', a9', a10')) :
    wpX_layOut post (pw, (nI n), uc, me, la, lr, gc, so, a2, a3, a4, a5, a6, a7, a8, a9, a10) w := by
  have t := ps_lay_loop (post := post) (w := w) (pw := pw) (uc := uc) (me := me) (la := la) (lr := lr) (so := so) (a2 := a2) (a3 := a3) (a4 := a4) (a6 := a6) (n := n) wf (fun gc a5 a7 a8 a9 a10 hI => by
    rw [ps_LI_r hI]
    exact H gc a5 a7 a8 a9 a10 ⟨hI.2.2.2, hI.2.2.1, by rw [ps_LI_r hI]⟩) (n + 1) 0 (by omega) (by omega) 0 a5 a7 a8 a9 a10 ps_LI_0
  exact ⟨n + 1, t⟩
end
end
section
section
variable {post : St1 → Prop} {t pw pc uc me la lr gc : Int32} {a1 a2 a3 a4 a5 a6 a7 a8 a9 a10 : Nat → Int32} {c d : Nat}
theorem ps_inr {a : Nat → Int32} {i : Nat} (hi : i < 60) (h : ∃ j, j < 60 ∧ a i = nI j) : vp_in (a (nI i).toNatClampNeg) 60 := by
  rw [nI_clamp (show i < 2 ^ 31 by omega)]
  obtain ⟨j, hj, e⟩ := h
  rw [e]
  exact vp_in_nI hj (by omega)
theorem ps_settle (hc : c ≤ 60) (hw : ∀ k, k < c → ∃ j, j < 60 ∧ a6 k = nI j)
    (H : ∀ a3', post (pw, pc, uc, me, la, lr, gc, a1, a2, a3', a4, a5, a6, a7, a8, a9, a10)) : wpX_settle post (pw, pc, uc, me, la, lr, gc, a1, a2, a3, a4, a5, a6, a7, a8, a9, a10) (nI c) t :=
  pk_loop (fun n i s => wX_settle_2 post (nI c) t pw pc uc me la lr gc n (nI i) a1 a2 s a4 a5 a6 a7 a8 a9 a10) (fun _ _ => True) c 0 a3 (by omega) trivial
    (fun n s _ => pk_le c c (fun _ => H s) (fun z => absurd z (by omega)))
    (fun n i s hi _ hs => pk_le c i (fun z => absurd z (by omega)) (fun _ => ⟨pk_in i 60 (by omega), pk_in i 60 (by omega), ps_inr (by omega) (hw i hi), ps_inr (by omega) (hw i hi), nm_e (nm_r (nI_1 i) (hs _ trivial))⟩))
theorem ps_m140 (hd : d ≤ 12) (hw : ∀ k, k < d → ∃ j, j < 60 ∧ a5 k = nI j)
    (H : ∀ a3', post (pw, pc, uc, me, la, lr, gc, a1, a2, a3', a4, a5, a6, a7, a8, a9, a10)) : ∃ f, wX_measure_140 post t (nI d) pw pc uc me la lr gc f 0 a1 a2 a3 a4 a5 a6 a7 a8 a9 a10 :=
  pk_loop (fun n i s => wX_measure_140 post t (nI d) pw pc uc me la lr gc n (nI i) a1 a2 s a4 a5 a6 a7 a8 a9 a10) (fun _ _ => True) d 0 a3 (by omega) trivial
    (fun n s _ => pk_le d d (fun _ => H s) (fun z => absurd z (by omega)))
    (fun n i s hi _ hs => pk_le d i (fun z => absurd z (by omega)) (fun _ => ⟨pk_in i 12 (by omega), pk_in i 12 (by omega), ps_inr (by omega) (hw i hi), ps_inr (by omega) (hw i hi), nm_e (nm_r (nI_1 i) (hs _ trivial))⟩))
end
section
variable {post : St1 → Prop} {pw uc me la lr gc : Int32} {so a2 a3 a4 a5 a6 a7 a8 a9 a10 : Nat → Int32} {n : Nat}
theorem ps_meas_loop (wf : ps_wf so n)
    (H : ∀ (a3 a4 a5 a6 : Nat → Int32), post (pw, (nI n), uc, me, la, lr, gc, so, a2, a3, a4, a5, a6, a7, a8, a9, a10)) :
    ∀ (f p : Nat), p ≤ n → n - p < f → ∀ (t : Int32) (c : Nat) (a3 a4 a5 a6 : Nat → Int32), c ≤ p → ps_sk a5 (ps_st so p) → (∀ k, k < c → ∃ j, j < 60 ∧ a6 k = nI j) →
      wX_measure_22 post f t (nI (ps_st so p).length) (nI c) (nI p) pw (nI n) uc me la lr gc so a2 a3 a4 a5 a6 a7 a8 a9 a10 := by
  have hn := wf.1
  intro f
  induction f with
  | zero => intro p _ h; exact absurd h (by omega)
  | succ f ih =>
    intro p hp hf t c a3 a4 a5 a6 hc h5 h6
    have hl := wf.2.2.2 p hp
    refine pk_le n p (fun z => ?_) (fun z => ⟨pk_in p 60 (by omega), ?_⟩)
    · refine ps_settle (by omega) h6 (fun a3' => ?_)
      refine ps_m140 hl (fun k hk => ?_) (fun a3'' => H a3'' a4 a5 a6)
      obtain ⟨j, hj, e⟩ := ps_sk_at _ h5 k hk
      exact ⟨j, by have := (ps_st_el p j hj).1; omega, e⟩
    · rw [nI_clamp (show p < 2 ^ 31 by omega)]
      refine br_c (fun e2 => ?_) (fun n2 => ⟨pk_in p 60 (by omega), br_c (fun e3 => ?_) (fun n3 => ⟨pk_in p 60 (by omega), br_c (fun e1 => ?_) (fun n1 => ?_)⟩)⟩)
      · have hl2 := wf.2.2.2 (p + 1) (by omega)
        have hs := ps_sk_push (p := p) h5
        rw [← ps_st_2 e2] at hs
        have t := ih (p + 1) (by omega) (by omega) t c a3 (upd a4 p t) _ a6 (by omega) hs h6
        rw [ps_st_2 e2] at t hl2
        have hl3 : (ps_st so p).length + 1 ≤ 12 := hl2
        refine ⟨pk_in p 60 (by omega), nm_e ⟨pk_in (ps_st so p).length 12 (by omega), nm_r (e' := upd a5 (ps_st so p).length (nI p)) (by rw [nI_clamp (by omega)]) (nm_r (nI_1 _) (nm_r (nI_1 p) t))⟩⟩
      · have hne := wf.2.2.1 p (by omega) e3
        rcases hst : ps_st so p with _ | ⟨h, tl⟩
        · exact absurd hst hne
        · have hh := (ps_st_el p h (by rw [hst]; simp)).1
          rw [hst] at h5 hl
          have hl' : tl.length + 1 ≤ 12 := hl
          have t := ih (p + 1) (by omega) (by omega) t (c + 1) a3 a4 a5 (upd a6 c (nI h)) (by omega) (by rw [ps_st_3 e3, hst]; exact h5.2) (by
            intro k hk
            by_cases e : k = c
            · exact ⟨h, by omega, by rw [e]; exact pk_us⟩
            · rw [pk_un e]; exact h6 k (by omega))
          rw [ps_st_3 e3, hst] at t
          refine nm_r (e' := nI tl.length) (pk_m1 _) ⟨pk_in tl.length 12 (by omega), pk_in c 60 (by omega), nm_r (e' := upd a6 c (nI h)) (by rw [nI_clamp (by omega), nI_clamp (by omega), h5.1]) (nm_r (nI_1 c) (nm_r (nI_1 p) t))⟩
      · refine ps_settle (by omega) h6 (fun a3' => ?_)
        have t := ih (p + 1) (by omega) (by omega) (t + a2 p) 0 a3' a4 a5 a6 (by omega) (by rw [ps_st_n n2 n3]; exact h5) (fun k hk => absurd hk (by omega))
        rw [ps_st_n n2 n3] at t
        exact ⟨pk_in p 60 (by omega), nm_r (by rw [nI_clamp (by omega)]) (nm_r (nI_1 p) t)⟩
      · have t := ih (p + 1) (by omega) (by omega) (t + a2 p) c a3 a4 a5 a6 (by omega) (by rw [ps_st_n n2 n3]; exact h5) h6
        rw [ps_st_n n2 n3] at t
        exact ⟨pk_in p 60 (by omega), nm_r (by rw [nI_clamp (by omega)]) (nm_r (nI_1 p) t)⟩
theorem ps_measure (wf : ps_wf so n)
    (H : ∀ (me' : Int32) (a3' a4' a5' a6' : Nat → Int32), ¬ me' = 0 → (¬ me = 0 → a3' = a3) → post (pw, (nI n), uc, me', la, lr, gc, so, a2, a3', a4', a5', a6', a7, a8, a9, a10)) :
    wpX_measure post (pw, (nI n), uc, me, la, lr, gc, so, a2, a3, a4, a5, a6, a7, a8, a9, a10) := by
  refine br_c (fun z => ⟨n + 1, ?_⟩) (fun z => H me a3 a4 a5 a6 z (fun _ => rfl))
  exact ps_meas_loop wf (fun a3' a4' a5' a6' => H 1 a3' a4' a5' a6' (by decide) (fun q => absurd z q)) (n + 1) 0 (by omega) (by omega) 0 0 a3 a4 a5 a6 (by omega) trivial (fun k hk => absurd hk (by omega))
end
end
section
section
variable {post : St1 → Prop} {pw uc me la lr gc : Int32} {so a2 a3 a4 a5 a6 a7 a8 a9 a10 : Nat → Int32} {n : Nat}
theorem ps_prep0 (wf : ps_wf so n) (h0 : la = 0)
    (H : ∀ (me' lr' gc' : Int32) (a3' a4' a5' a6' a7' a8' a9' a10' : Nat → Int32), ¬ me' = 0 → (¬ me = 0 → a3' = a3) → lr' = nI (ps_LR so a2 a3' pw n) → ps_LF so n lr' a7' a9' → post (pw, (nI n), uc, me', 1, lr', gc', so, a2, a3', a4', a5', a6', a7', a8', a9', a10')) :
    wpX_prepare post (pw, (nI n), uc, me, la, lr, gc, so, a2, a3, a4, a5, a6, a7, a8, a9, a10) := by
  refine br_t h0 (ps_measure wf (fun me' a3' a4' a5' a6' hm h3 => ?_))
  exact ps_layOut wf (fun gc' a5'' a7' a8' a9' a10' hF => H me' _ gc' a3' a4' a5'' a6' a7' a8' a9' a10' hm h3 rfl hF)
theorem ps_prep (wf : ps_wf so n) (hL : ¬ la = 0 → ps_LF so n lr a7 a9)
    (H : ∀ (me' la' lr' gc' : Int32) (a3' a4' a5' a6' a7' a8' a9' a10' : Nat → Int32), ¬ la' = 0 → ps_LF so n lr' a7' a9' → (¬ la = 0 → a9' = a9) → post (pw, (nI n), uc, me', la', lr', gc', so, a2, a3', a4', a5', a6', a7', a8', a9', a10')) :
    wpX_prepare post (pw, (nI n), uc, me, la, lr, gc, so, a2, a3, a4, a5, a6, a7, a8, a9, a10) := by
  by_cases h0 : la = 0
  · exact ps_prep0 wf h0 (fun me' lr' gc' a3' a4' a5' a6' a7' a8' a9' a10' _ _ _ hF => H me' 1 lr' gc' a3' a4' a5' a6' a7' a8' a9' a10' (by decide) hF (fun q => absurd h0 q))
  · exact br_f h0 (H me la lr gc a3 a4 a5 a6 a7 a8 a9 a10 h0 (hL h0) (fun _ => rfl))
end
section
variable {post : Int32 → St1 → Prop} {pw uc me la lr gc : Int32} {so a2 a3 a4 a5 a6 a7 a8 a9 a10 : Nat → Int32} {n i : Nat}
theorem ps_flat (wf : ps_wf so n) (hi : i < n) (hL : ¬ la = 0 → ps_LF so n lr a7 a9)
    (Hn : ¬ so i = 2 → post (-1) (pw, (nI n), uc, me, la, lr, gc, so, a2, a3, a4, a5, a6, a7, a8, a9, a10))
    (Hy : so i = 2 → ∀ (me' la' lr' gc' : Int32) (a3' a4' a5' a6' a7' a8' a9' a10' : Nat → Int32), ¬ la' = 0 → ps_LF so n lr' a7' a9' → (¬ la = 0 → a9' = a9) → (a9' i = 0 → post 0 (pw, (nI n), uc, me', la', lr', gc', so, a2, a3', a4', a5', a6', a7', a8', a9', a10')) ∧ (¬ a9' i = 0 → post 1 (pw, (nI n), uc, me', la', lr', gc', so, a2, a3', a4', a5', a6', a7', a8', a9', a10'))) :
    wpX_flat post (pw, (nI n), uc, me, la, lr, gc, so, a2, a3, a4, a5, a6, a7, a8, a9, a10) (nI i) := by
  have hn := wf.1
  refine br_f (nI_pos (by omega)) (pk_le n i (fun z => absurd z (by omega)) (fun _ => ⟨pk_in i 60 (by omega), ?_⟩))
  rw [nI_clamp (show i < 2 ^ 31 by omega)]
  exact br_c (fun h2 => ps_prep wf hL (fun me' la' lr' gc' a3' a4' a5' a6' a7' a8' a9' a10' h1 hF h9 => ⟨pk_in i 60 (by omega), Hy h2 me' la' lr' gc' a3' a4' a5' a6' a7' a8' a9' a10' h1 hF h9⟩)) Hn
theorem ps_row (wf : ps_wf so n) (hi : i < n) (hL : ¬ la = 0 → ps_LF so n lr a7 a9)
    (H : ∀ (me' la' lr' gc' : Int32) (a3' a4' a5' a6' a7' a8' a9' a10' : Nat → Int32), ¬ la' = 0 → ps_LF so n lr' a7' a9' → (¬ la = 0 → a9' = a9) → post (nI (ps_rr so a9' i)) (pw, (nI n), uc, me', la', lr', gc', so, a2, a3', a4', a5', a6', a7', a8', a9', a10')) :
    wpX_row post (pw, (nI n), uc, me, la, lr, gc, so, a2, a3, a4, a5, a6, a7, a8, a9, a10) (nI i) := by
  have hn := wf.1
  refine br_f (nI_pos (by omega)) (pk_lt i n (fun _ => ?_) (fun z => absurd z (by omega)))
  refine ps_prep wf hL (fun me' la' lr' gc' a3' a4' a5' a6' a7' a8' a9' a10' h1 hF h9 => ⟨pk_in i 60 (by omega), ?_⟩)
  rw [nI_clamp (show i < 2 ^ 31 by omega), hF.2.1 i hi]
  exact H me' la' lr' gc' a3' a4' a5' a6' a7' a8' a9' a10' h1 hF h9
theorem ps_rows (wf : ps_wf so n) (hL : ¬ la = 0 → ps_LF so n lr a7 a9)
    (H : ∀ (me' la' lr' gc' : Int32) (a3' a4' a5' a6' a7' a8' a9' a10' : Nat → Int32), ¬ la' = 0 → ps_LF so n lr' a7' a9' → (¬ la = 0 → a9' = a9) → post (lr' + 1) (pw, (nI n), uc, me', la', lr', gc', so, a2, a3', a4', a5', a6', a7', a8', a9', a10')) :
    wpX_rows post (pw, (nI n), uc, me, la, lr, gc, so, a2, a3, a4, a5, a6, a7, a8, a9, a10) := by
  unfold wpX_rows
  dsimp only
  exact ps_prep wf hL (fun me' la' lr' gc' a3' a4' a5' a6' a7' a8' a9' a10' h1 hF h9 => H me' la' lr' gc' a3' a4' a5' a6' a7' a8' a9' a10' h1 hF h9)
theorem ps_rows0 (wf : ps_wf so n) (h0 : la = 0) (hm : ¬ me = 0)
    (H : ∀ (me' la' lr' gc' : Int32) (a4' a5' a6' a7' a8' a9' a10' : Nat → Int32), ¬ me' = 0 → lr' = nI (ps_LR so a2 a3 pw n) → post (lr' + 1) (pw, (nI n), uc, me', la', lr', gc', so, a2, a3, a4', a5', a6', a7', a8', a9', a10')) :
    wpX_rows post (pw, (nI n), uc, me, la, lr, gc, so, a2, a3, a4, a5, a6, a7, a8, a9, a10) := by
  unfold wpX_rows
  dsimp only
  refine ps_prep0 wf h0 (fun me' lr' gc' a3' a4' a5' a6' a7' a8' a9' a10' h1 h3 hl _ => ?_)
  have e := h3 hm
  subst e
  exact H me' 1 lr' gc' a4' a5' a6' a7' a8' a9' a10' h1 hl
end
end
section
theorem ps_c63 : ∀ k, k < 64 → ((nI k).toInt64 &&& 63) = lN k := by decide +kernel
theorem ps_sm64 : ∀ k, k < 64 → (BitVec.ofNat 64 k).smod 64 = BitVec.ofNat 64 k := by decide +kernel
theorem ps_bshl (n : Nat) {k : Nat} (hk : k < 64) : lN n <<< ((nI k).toInt64 &&& 63) = lN (n * 2 ^ k) := by
  rw [ps_c63 k hk]
  apply Int64.toBitVec_inj.mp
  have tb : ∀ n, (lN n).toBitVec = BitVec.ofNat 64 n := fun _ => rfl
  rw [Int64.toBitVec_shiftLeft, tb, tb, tb, ps_sm64 k hk]
  apply BitVec.eq_of_toNat_eq
  rw [BitVec.shiftLeft_eq', BitVec.toNat_shiftLeft, BitVec.toNat_ofNat, BitVec.toNat_ofNat, BitVec.toNat_ofNat, Nat.mod_eq_of_lt (show k < 2 ^ 64 by omega), Nat.shiftLeft_eq, Nat.mul_mod, Nat.mod_mod, ← Nat.mul_mod]
theorem ps_utn {n : Nat} (h : n < 2 ^ 64) : (UInt64.ofNat n).toNat = n := Nat.mod_eq_of_lt h
theorem ps_bor {k p a b : Nat} (hp : 2 ^ k = p) (ha : a < p) (h : a + b * p < 2 ^ 64) : lN a ||| lN (b * p) = lN (a + b * p) := by
  subst hp
  have h1 : b * 2 ^ k ||| a = b * 2 ^ k + a := by rw [← Nat.shiftLeft_eq, Nat.shiftLeft_add_eq_or_of_lt ha]
  have h3 : UInt64.ofNat (b * 2 ^ k) ||| UInt64.ofNat a = UInt64.ofNat (b * 2 ^ k + a) := UInt64.toNat_inj.mp (by rw [UInt64.toNat_or, ps_utn (by omega), ps_utn (by omega), ps_utn (by omega), h1])
  have h2 : lN (b * 2 ^ k) ||| lN a = lN (b * 2 ^ k + a) := congrArg UInt64.toInt64 h3
  rw [Int64.or_comm, h2, Nat.add_comm]
theorem ps_bshr {a d : Nat} {D : Int64} (hD : (D.toBitVec.smod 64).toNat = d) (h : a < 2 ^ 62) : lN a >>> D = lN (a / 2 ^ d) := by
  have hd : a / 2 ^ d ≤ a := Nat.div_le_self _ _
  apply Int64.toInt_inj.mp
  have e : (lN a >>> D).toInt = (lN a).toInt >>> d := by
    rw [← hD]
    exact BitVec.toInt_sshiftRight ..
  rw [e, Int.shiftRight_eq_div_pow, pk_lT (by omega), pk_lT (by omega)]
  rfl
theorem ps_sh30 : ∀ k, k < 30 → (((nI (2 * k)).toInt64 &&& 63).toBitVec.smod 64).toNat = 2 * k := by decide +kernel
theorem ps_and3 (v : Nat) : nI v &&& 3 = nI (v % 4) := by
  rw [pk_and (nI v) 2 (by decide)]
  have e : (nI v).toBitVec.toNat = v % 2 ^ 32 := BitVec.toNat_ofNat v 32
  rw [e]
  congr 1
  omega
/-- base-4 digits: one more on top -/
theorem ps_dg {a c n i : Nat} (ha : a < 2 ^ (2 * n)) (hi : i < n) : (a + c * 2 ^ (2 * n)) / 2 ^ (2 * i) % 4 = a / 2 ^ (2 * i) % 4 := by
  have e : c * 2 ^ (2 * n) = 2 ^ (2 * i) * (4 * (2 ^ (2 * (n - i - 1)) * c)) := by
    have e1 : 2 ^ (2 * n) = 2 ^ (2 * i) * (4 * 2 ^ (2 * (n - i - 1))) := by
      rw [show 2 * n = 2 * i + (2 + 2 * (n - i - 1)) by omega, Nat.pow_add, Nat.pow_add]
    rw [e1, Nat.mul_comm c, Nat.mul_assoc, Nat.mul_assoc]
  rw [e, Nat.add_mul_div_left _ _ (Nat.two_pow_pos _)]
  omega
theorem ps_dt {a c n : Nat} (ha : a < 2 ^ (2 * n)) (hc : c < 4) : (a + c * 2 ^ (2 * n)) / 2 ^ (2 * n) % 4 = c := by
  rw [Nat.add_mul_div_right _ _ (Nat.two_pow_pos _), Nat.div_eq_of_lt ha]
  omega
theorem ps_dl {a c n : Nat} (ha : a < 2 ^ (2 * n)) (hc : c < 4) : a + c * 2 ^ (2 * n) < 2 ^ (2 * (n + 1)) := by
  rw [show 2 * (n + 1) = 2 * n + 2 by omega, Nat.pow_add]
  have h : c * 2 ^ (2 * n) ≤ 3 * 2 ^ (2 * n) := Nat.mul_le_mul_right _ (by omega)
  omega
/-- n sorts of pieces in two longs -/
def ps_bits (lo hi : Int64) (n : Nat) (so : Nat → Int32) : Prop :=
  ∃ a b : Nat, lo = lN a ∧ hi = lN b ∧ a < 2 ^ (2 * min n 30) ∧ b < 2 ^ (2 * (n - 30)) ∧ (∀ i, i < n → i < 30 → so i = nI (a / 2 ^ (2 * i) % 4)) ∧ (∀ i, i < n → 30 ≤ i → so i = nI (b / 2 ^ (2 * (i - 30)) % 4))
theorem ps_bits_0 {so : Nat → Int32} : ps_bits 0 0 0 so :=
  ⟨0, 0, rfl, rfl, by decide, by decide, fun i hi => absurd hi (by omega), fun i hi => absurd hi (by omega)⟩
theorem ps_p62 {a k : Nat} (hk : k ≤ 30) (h : a < 2 ^ (2 * k)) : a < 2 ^ 62 :=
  Nat.lt_of_lt_of_le h (Nat.pow_le_pow_right (by decide) (by omega))
theorem ps_g12 {P : Int32 → Prop} {a i k : Nat} (ha : a < 2 ^ 62) (hi : i < 60) (hk : i % 30 = k) (H : P (nI (a / 2 ^ (2 * k) % 4))) : wL_get_12 P (nI i) (lN a) := by
  unfold wL_get_12
  have e : nI i - nI i / 30 * 30 = nI k := by
    rw [← hk]
    exact pk_rem (by omega) (by decide) (by decide)
  rw [e, show (2 : Int32) * nI k = nI (2 * k) from pk_mul 2 k, ps_bshr (ps_sh30 k (by omega)) ha, lN_i, ps_and3]
  exact ⟨by decide, H⟩
theorem ps_get {P : Int32 → Prop} {lo hi : Int64} {n : Nat} {so : Nat → Int32} (hn : n ≤ 60) (hb : ps_bits lo hi n so) {i : Nat} (hi' : i < n) (H : P (so i)) : wpL_get P () lo hi (nI i) := by
  obtain ⟨a, b, rfl, rfl, ha, hb, h1, h2⟩ := hb
  refine pk_le 30 i (fun z => ?_) (fun z => ?_)
  · rw [h2 i hi' z] at H
    exact ps_g12 (ps_p62 (by omega) hb) (by omega) (by omega) H
  · rw [h1 i hi' z] at H
    exact ps_g12 (ps_p62 (by omega) ha) (by omega) (by omega) H
theorem ps_bits_lo {lo hi : Int64} {n c : Nat} {so : Nat → Int32} (hb : ps_bits lo hi n so) (hn : n < 30) (hc : c < 4) :
    ps_bits (lo ||| ((nI c).toInt64 <<< ((2 * nI n).toInt64 &&& 63))) hi (n + 1) (upd so n (nI c)) := by
  obtain ⟨a, b, rfl, rfl, ha, hb, h1, h2⟩ := hb
  rw [show min n 30 = n by omega] at ha
  have hl := ps_dl (n := n) ha hc
  have hl2 := ps_p62 (by omega) hl
  rw [nI_l (by omega), show (2 : Int32) * nI n = nI (2 * n) from pk_mul 2 n, ps_bshl c (by omega), ps_bor rfl ha (by omega)]
  refine ⟨_, b, rfl, rfl, by rw [show min (n + 1) 30 = n + 1 by omega]; exact hl, by rw [show n - 30 = 0 by omega] at hb; rw [show n + 1 - 30 = 0 by omega]; exact hb, ?_, fun i hi z => absurd z (by omega)⟩
  intro i hi z
  by_cases e : i = n
  · rw [e, pk_us, ps_dt ha hc]
  · rw [pk_un e, ps_dg ha (by omega)]
    exact h1 i (by omega) z
theorem ps_bits_hi {lo hi : Int64} {n c : Nat} {so : Nat → Int32} (hb : ps_bits lo hi n so) (hn : 30 ≤ n) (hn2 : n < 60) (hc : c < 4) :
    ps_bits lo (hi ||| ((nI c).toInt64 <<< ((2 * (nI n - 30)).toInt64 &&& 63))) (n + 1) (upd so n (nI c)) := by
  obtain ⟨a, b, rfl, rfl, ha, hb, h1, h2⟩ := hb
  obtain ⟨k, rfl⟩ : ∃ k, n = k + 30 := ⟨n - 30, by omega⟩
  rw [show k + 30 - 30 = k by omega] at hb
  have hl := ps_dl (n := k) hb hc
  have hl2 := ps_p62 (by omega) hl
  have e30 : nI (k + 30) - 30 = nI k := (pk_sub (a := k + 30) (b := 30) (by omega)).trans (congrArg nI (by omega))
  rw [e30, nI_l (by omega), show (2 : Int32) * nI k = nI (2 * k) from pk_mul 2 k, ps_bshl c (by omega), ps_bor rfl hb (by omega)]
  refine ⟨a, _, rfl, rfl, by rw [show min (k + 30) 30 = 30 by omega] at ha; rw [show min (k + 30 + 1) 30 = 30 by omega]; exact ha, by rw [show k + 30 + 1 - 30 = k + 1 by omega]; exact hl, ?_, ?_⟩
  · intro i hi z
    rw [pk_un (by omega)]
    exact h1 i (by omega) z
  · intro i hi z
    by_cases e : i = k + 30
    · rw [e, pk_us, show k + 30 - 30 = k by omega, ps_dt hb hc]
    · rw [pk_un e, ps_dg hb (by omega)]
      exact h2 i (by omega) z
end
section
/-- get answers the sort of a piece -/
def ps_G (lo hi : Int64) (n : Nat) (so : Nat → Int32) : Prop := ∀ (P : Int32 → Prop) (i : Nat), i < n → P (so i) → wpL_get P () lo hi (nI i)
/-- up to piece e we are inside the group g -/
def ps_E (so : Nat → Int32) (g e : Nat) : Prop := ∀ i, g < i → i ≤ e → ∃ h t, ps_st so i = h :: t ∧ g ≤ h
section
variable {post : Int32 → Prop} {lo hi : Int64} {n g : Nat} {so : Nat → Int32}
theorem ps_end_loop (wf : ps_wf so n) (hG : ps_G lo hi n so) (hg : g < n) (h2 : so g = 2)
    (H : ∀ e, g ≤ e → e < n → ps_E so g e → post (nI e)) :
    ∀ (f i : Nat), g < i → i ≤ n → n - i < f → ∀ l : List Nat, (∀ x, x ∈ l → g ≤ x) → ps_st so i = l ++ g :: ps_st so g → ps_E so g i →
      wL_end_7 post lo hi (nI n) f (nI (l.length + 1)) (nI i) := by
  have hn := wf.1
  intro f
  induction f with
  | zero => intro i _ _ h; exact absurd h (by omega)
  | succ f ih =>
    intro i hgi hi hf l hl hs hE
    have hlen := wf.2.2.2 i hi
    rw [hs, List.length_append] at hlen
    refine pk_le n i (fun z => ?_) (fun z => hG _ i (by omega) (br_c (fun e2 => ?_) (fun n2 => br_c (fun e3 => ?_) (fun n3 => ?_))))
    · rw [show nI n - 1 = nI (n - 1) from pk_sub (a := n) (b := 1) (by omega)]
      exact H (n - 1) (by omega) (by omega) (fun j h1 h3 => hE j h1 (by omega))
    · have hs' : ps_st so (i + 1) = (i :: l) ++ g :: ps_st so g := by rw [ps_st_2 e2, hs]; rfl
      have t := ih (i + 1) (by omega) (by omega) (by omega) (i :: l) (by
        intro x hx
        rcases List.mem_cons.mp hx with e | e
        · omega
        · exact hl x e) hs' (by
        intro j h1 h3
        by_cases e : j = i + 1
        · exact ⟨i, l ++ g :: ps_st so g, by rw [e]; exact hs', by omega⟩
        · exact hE j h1 (by omega))
      exact nm_r (nI_1 _) (br_f (nI_ne0 (by omega) (by omega)) (nm_r (nI_1 i) t))
    · cases l with
      | nil => exact nm_r (e' := nI 0) (pk_m1 0) (br_t rfl (H i (by omega) (by omega) hE))
      | cons b l =>
        have hs' : ps_st so (i + 1) = l ++ g :: ps_st so g := by rw [ps_st_3 e3, hs]; rfl
        have hlen' : l.length + 1 + (ps_st so g).length.succ ≤ 12 := hlen
        have t := ih (i + 1) (by omega) (by omega) (by omega) l (fun x hx => hl x (by simp [hx])) hs' (by
          intro j h1 h3
          by_cases e : j = i + 1
          · rw [e, hs']
            cases l with
            | nil => exact ⟨g, _, rfl, Nat.le_refl g⟩
            | cons c l => exact ⟨c, _, rfl, hl c (by simp)⟩
          · exact hE j h1 (by omega))
        exact nm_r (e' := nI (l.length + 1)) (pk_m1 _) (br_f (nI_ne0 (by omega) (by omega)) (nm_r (nI_1 i) t))
    · have hs' : ps_st so (i + 1) = l ++ g :: ps_st so g := by rw [ps_st_n n2 n3, hs]
      have t := ih (i + 1) (by omega) (by omega) (by omega) l hl hs' (by
        intro j h1 h3
        by_cases e : j = i + 1
        · rw [e, hs']
          cases l with
          | nil => exact ⟨g, _, rfl, Nat.le_refl g⟩
          | cons c l => exact ⟨c, _, rfl, hl c (by simp)⟩
        · exact hE j h1 (by omega))
      exact nm_r (e' := nI (l.length + 1)) (nI_add _ 0) (br_f (nI_ne0 (by omega) (by omega)) (nm_r (nI_1 i) t))
theorem ps_end (wf : ps_wf so n) (hG : ps_G lo hi n so) (hg : g < n) (h2 : so g = 2)
    (H : ∀ e, g ≤ e → e < n → ps_E so g e → post (nI e)) : wpL_end post () lo hi (nI n) (nI g) := by
  have hn := wf.1
  refine ⟨n + 2, pk_le n g (fun z => absurd z (by omega)) (fun z => hG _ g hg (br_t h2 (nm_r (e' := nI 1) rfl (br_f (by decide) (nm_r (nI_1 g) ?_)))))⟩
  refine ps_end_loop wf hG hg h2 H (n + 1) (g + 1) (by omega) (by omega) (by omega) [] (fun x hx => absurd hx (by simp)) (ps_st_2 h2) ?_
  intro j h1 h3
  rw [show j = g + 1 by omega, ps_st_2 h2]
  exact ⟨g, _, rfl, Nat.le_refl g⟩
end
/-- inside a flat group: every group is flat, no row ends -/
theorem ps_flat_in {so F a7 : Nat → Int32} {n g e : Nat} {lr : Int32} (hF : ps_LF so n lr a7 F) (he : e < n) (hE : ps_E so g e) (h2 : so g = 2) (hg : ¬ F g = 0) :
    ∀ i, g ≤ i → i ≤ e → ps_rr so F i = ps_rr so F g ∧ (so i = 2 → ¬ F i = 0) ∧ (g < i → ∀ x, x ∈ ps_st so i → g ≤ x → ¬ F x = 0) := by
  intro i
  induction i with
  | zero =>
    intro h0 _
    have e : g = 0 := by omega
    subst e
    exact ⟨rfl, fun _ => hg, fun z => absurd z (by omega)⟩
  | succ i ih =>
    intro h0 h1
    by_cases c : g = i + 1
    · subst c
      exact ⟨rfl, fun _ => hg, fun z => absurd z (by omega)⟩
    · obtain ⟨k1, k2, k3⟩ := ih (by omega) (by omega)
      have hx : ∀ x, x ∈ ps_st so (i + 1) → g ≤ x → ¬ F x = 0 := by
        intro x hx hgx
        by_cases e2 : so i = 2
        · rw [ps_st_2 e2] at hx
          rcases List.mem_cons.mp hx with e | e
          · rw [e]; exact k2 e2
          · by_cases c2 : g < i
            · exact k3 c2 x e hgx
            · have := (ps_st_el i x e).1
              exact absurd hgx (by omega)
        · have c2 : g < i := by
            rcases Nat.lt_or_ge g i with z | z
            · exact z
            · exact absurd h2 (by rw [show g = i by omega]; exact e2)
          by_cases e3 : so i = 3
          · rw [ps_st_3 e3] at hx
            exact k3 c2 x (List.mem_of_mem_tail hx) hgx
          · rw [ps_st_n e2 e3] at hx
            exact k3 c2 x hx hgx
      obtain ⟨h, t, hs, hh⟩ := hE (i + 1) (by omega) h1
      have hhd : ¬ ps_hd F (ps_st so (i + 1)) = 0 := by
        rw [hs]
        exact hx h (by rw [hs]; simp) hh
      refine ⟨?_, fun e2 => hF.1 (i + 1) (by omega) e2 hhd, fun _ => hx⟩
      rw [ps_rr_k, k1]
      intro e1
      have c2 : g < i := by
        rcases Nat.lt_or_ge g i with z | z
        · exact z
        · exact absurd h2 (by rw [show g = i by omega, e1]; decide)
      obtain ⟨h', t', hs', hh'⟩ := hE i c2 (by omega)
      rw [hs']
      exact k3 c2 h' (by rw [hs']; simp) hh'
section
variable {post : Int32 → St1 → Prop} {J : Int32 → Int32 → Int32 → Int32 → Int32 → Int32 → Int32 → Int32 → (Nat → Int32) → (Nat → Int32) → (Nat → Int32) → (Nat → Int32) → (Nat → Int32) → (Nat → Int32) → (Nat → Int32) → (Nat → Int32) → (Nat → Int32) → (Nat → Int32) → Prop} {lo hi : Int64} {pw uc : Int32} {so a2 F : Nat → Int32} {n g e : Nat}
theorem ps_f71 (wf : ps_wf so n) (hG : ps_G lo hi n so) (hge : g ≤ e) (he : e < n)
    (hr : ∀ i, g ≤ i → i ≤ e → ps_rr so F i = ps_rr so F g ∧ (so i = 2 → ¬ F i = 0))
    (H : ∀ (me la lr gc : Int32) (a3 a4 a5 a6 a7 a8 a10 : Nat → Int32), ¬ la = 0 → ps_LF so n lr a7 F → J (nI (g + 1)) pw (nI n) uc me la lr gc so a2 a3 a4 a5 a6 a7 a8 F a10) :
    ∀ (f i : Nat), g ≤ i → i ≤ e + 1 → e + 1 - i < f → ∀ (me la lr gc : Int32) (a3 a4 a5 a6 a7 a8 a10 : Nat → Int32), ¬ la = 0 → ps_LF so n lr a7 F →
      wL_flat_71 post J lo hi (nI n) (nI g) (nI e) f (nI i) pw (nI n) uc me la lr gc so a2 a3 a4 a5 a6 a7 a8 F a10 := by
  have hn := wf.1
  intro f
  induction f with
  | zero => intro i _ _ h; exact absurd h (by omega)
  | succ f ih =>
    intro i hgi hi hf me la lr gc a3 a4 a5 a6 a7 a8 a10 hla hLF
    refine pk_lt e i (fun z => nm_r (nI_1 g) (H me la lr gc a3 a4 a5 a6 a7 a8 a10 hla hLF)) (fun z => ?_)
    refine ps_row wf (by omega) (fun _ => hLF) (fun me' la' lr' gc' a3' a4' a5' a6' a7' a8' a9' a10' l1 f1 n1 => ?_)
    have e1 := n1 hla
    subst e1
    refine ps_row wf (by omega) (fun _ => f1) (fun me2 la2 lr2 gc2 b3 b4 b5 b6 b7 b8 b9 b10 l2 f2 n2 => ?_)
    have e2 := n2 l1
    subst e2
    refine br_t (by rw [(hr i hgi (by omega)).1]) (hG _ i (by omega) (br_c (fun c2 => ?_) (fun c2 => ?_)))
    · refine ps_flat wf (by omega) (fun _ => f2) (fun q => absurd c2 q) (fun _ me3 la3 lr3 gc3 c3 c4 c5 c6 c7 c8 c9 c10 l3 f3 n3 => ?_)
      have e3 := n3 l2
      subst e3
      refine ⟨fun q => absurd q ((hr i hgi (by omega)).2 c2), fun _ => br_t rfl (nm_r (nI_1 i) ?_)⟩
      exact ih (i + 1) (by omega) (by omega) (by omega) me3 la3 lr3 gc3 c3 c4 c5 c6 c7 c8 c10 l3 f3
    · exact nm_r (nI_1 i) (ih (i + 1) (by omega) (by omega) (by omega) me2 la2 lr2 gc2 b3 b4 b5 b6 b7 b8 b10 l2 f2)
theorem ps_flat_loop (wf : ps_wf so n) (hG : ps_G lo hi n so)
    (H : ∀ (me la lr gc : Int32) (a3 a4 a5 a6 a7 a8 a9 a10 : Nat → Int32), (¬ la = 0 → ps_LF so n lr a7 a9) → post 1 (pw, (nI n), uc, me, la, lr, gc, so, a2, a3, a4, a5, a6, a7, a8, a9, a10)) :
    ∀ (f g : Nat), g ≤ n → n - g < f → ∀ (me la lr gc : Int32) (a3 a4 a5 a6 a7 a8 a9 a10 : Nat → Int32), (¬ la = 0 → ps_LF so n lr a7 a9) → wL_flat_3 post lo hi (nI n) f (nI g) pw (nI n) uc me la lr gc so a2 a3 a4 a5 a6 a7 a8 a9 a10 := by
  have hn := wf.1
  intro f
  induction f with
  | zero => intro g _ h; exact absurd h (by omega)
  | succ f ih =>
    intro g hg hf me la lr gc a3 a4 a5 a6 a7 a8 a9 a10 hL
    refine pk_le n g (fun z => H me la lr gc a3 a4 a5 a6 a7 a8 a9 a10 hL) (fun z => ?_)
    refine ps_flat wf z hL (fun h2 => ?_) (fun h2 me' la' lr' gc' a3' a4' a5' a6' a7' a8' a9' a10' l1 f1 n1 => ?_)
    · exact br_t rfl (hG _ g z (br_f h2 (br_t rfl (br_f (by decide) (nm_r (nI_1 g) (ih (g + 1) z (by omega) me la lr gc a3 a4 a5 a6 a7 a8 a9 a10 hL))))))
    · refine ⟨fun c0 => ?_, fun c1 => ?_⟩
      · exact br_f (by decide) (hG _ g z (br_t h2 (br_t rfl (br_f (by decide) (nm_r (nI_1 g) (ih (g + 1) z (by omega) me' la' lr' gc' a3' a4' a5' a6' a7' a8' a9' a10' (fun _ => f1)))))))
      · refine br_f (by decide) (hG _ g z (br_t h2 (br_t rfl (br_t rfl (ps_end wf hG z h2 (fun e h1 h3 hE => ⟨n + 2, ?_⟩))))))
        have k := ps_flat_in f1 h3 hE h2 c1
        exact ps_f71 wf hG h1 h3 (fun i q1 q2 => ⟨(k i q1 q2).1, (k i q1 q2).2.1⟩) (fun me2 la2 lr2 gc2 b3 b4 b5 b6 b7 b8 b10 l2 f2 => ih (g + 1) z (by omega) me2 la2 lr2 gc2 b3 b4 b5 b6 b7 b8 a9' b10 (fun _ => f2)) (n + 2) g (Nat.le_refl g) (by omega) (by omega) me' la' lr' gc' a3' a4' a5' a6' a7' a8' a10' l1 f1
theorem ps_flat_law {me la lr gc : Int32} {a3 a4 a5 a6 a7 a8 a9 a10 : Nat → Int32} (wf : ps_wf so n) (hG : ps_G lo hi n so) (hL : ¬ la = 0 → ps_LF so n lr a7 a9)
    (H : ∀ (me la lr gc : Int32) (a3 a4 a5 a6 a7 a8 a9 a10 : Nat → Int32), (¬ la = 0 → ps_LF so n lr a7 a9) → post 1 (pw, (nI n), uc, me, la, lr, gc, so, a2, a3, a4, a5, a6, a7, a8, a9, a10)) : wpL_flat post (pw, (nI n), uc, me, la, lr, gc, so, a2, a3, a4, a5, a6, a7, a8, a9, a10) lo hi (nI n) :=
  ⟨n + 1, ps_flat_loop wf hG H (n + 1) 0 (by omega) (by omega) me la lr gc a3 a4 a5 a6 a7 a8 a9 a10 hL⟩
end
end
section
theorem ps_m1s (x : Int32) : x + (-1) = x - 1 := (Int32.sub_eq_add_neg x 1).symm
section
variable {post : Int32 → St1 → Prop} {J6 : Int32 → Int32 → Int32 → Int32 → Int32 → Int32 → Int32 → Int32 → Int32 → (Nat → Int32) → (Nat → Int32) → (Nat → Int32) → (Nat → Int32) → (Nat → Int32) → (Nat → Int32) → (Nat → Int32) → (Nat → Int32) → (Nat → Int32) → (Nat → Int32) → Prop} {K : Int32 → Int32 → Int32 → Prop} {lo hi : Int64} {x5 x6 x7 x9 x11 pw pc uc me la lr gc : Int32} {a1 a2 a3 a4 a5 a6 a7 a8 a9 a10 : Nat → Int32} {k lev : Nat}
theorem ps_c79 (hl : lev < 100) (H0 : x11 = 2 → lev = 0 → K (nI lev) x9 (nI k - 1)) (H1 : ∀ l, x11 = 2 → lev = l + 1 → K (nI l) x9 (nI k - 1)) (H2 : ¬ x11 = 2 → K (nI lev) x9 (nI k - 1)) :
    wL_counted_79 post J6 K lo hi x5 x6 x7 (nI lev) x9 (nI k) x11 pw pc uc me la lr gc a1 a2 a3 a4 a5 a6 a7 a8 a9 a10 := by
  refine br_c (fun e => pk_le lev 0 (fun z => nm_r (ps_m1s _) (H0 e (by omega))) (fun z => ?_)) (fun e => nm_r (ps_m1s _) (H2 e))
  obtain ⟨l, rfl⟩ : ∃ l, lev = l + 1 := ⟨lev - 1, by omega⟩
  exact nm_r (pk_m1 l) (nm_r (ps_m1s _) (H1 l e rfl))
end
section
variable {post : Int32 → St1 → Prop} {J6 : Int32 → Int32 → Int32 → Int32 → Int32 → Int32 → Int32 → Int32 → Int32 → (Nat → Int32) → (Nat → Int32) → (Nat → Int32) → (Nat → Int32) → (Nat → Int32) → (Nat → Int32) → (Nat → Int32) → (Nat → Int32) → (Nat → Int32) → (Nat → Int32) → Prop} {lo hi : Int64} {x6 x7 pw uc me la lr gc : Int32} {so a2 a3 a4 a5 a6 a7 a8 a9 a10 : Nat → Int32} {n i : Nat}
/-- the backward scan of the law finds the innermost group -/
theorem ps_scan (wf : ps_wf so n) (hG : ps_G lo hi n so) (hin : i < n)
    (H : ∀ (f : Nat) (x8 x9 : Int32), ps_z x9 (ps_st so i) → wL_counted_36 post J6 lo hi (nI n) x6 x7 pw (nI n) uc me la lr gc so a2 a3 a4 a5 a6 a7 a8 a9 a10 (f + 1) x8 x9 (-1)) :
    ∀ (f m : Nat), m < f → ∀ (lev : Nat) (x9 : Int32), lev + m ≤ i → ((x9 = -1 ∧ (ps_st so i).head? = ((ps_st so m).drop lev).head?) ∨ (∃ h t, ps_st so i = h :: t ∧ x9 = nI h)) →
      wL_counted_36 post J6 lo hi (nI n) x6 x7 pw (nI n) uc me la lr gc so a2 a3 a4 a5 a6 a7 a8 a9 a10 f (nI lev) x9 (nI m - 1) := by
  have hn := wf.1
  intro f
  induction f with
  | zero => intro m h; exact absurd h (by omega)
  | succ f ih =>
    intro m hm lev x9 hlm hx
    cases m with
    | zero =>
      refine H f (nI lev) x9 ?_
      rcases hx with ⟨h9, hh⟩ | ⟨h, t, hs, h9⟩
      · have e : ps_st so i = [] := by
          rw [show (ps_st so 0).drop lev = [] from List.drop_nil] at hh
          cases hs : ps_st so i with
          | nil => rfl
          | cons a b => rw [hs] at hh; exact absurd hh (by simp)
        rw [e]
        exact h9
      · have := (ps_st_el i h (by rw [hs]; simp)).1
        rw [hs]
        exact ⟨by omega, h9⟩
    | succ k =>
      rw [nI_pred k]
      have go : ∀ (l : Nat) (y : Int32), l + k ≤ i → ((y = -1 ∧ (ps_st so i).head? = ((ps_st so k).drop l).head?) ∨ (∃ h t, ps_st so i = h :: t ∧ y = nI h)) → wL_counted_36 post J6 lo hi (nI n) x6 x7 pw (nI n) uc me la lr gc so a2 a3 a4 a5 a6 a7 a8 a9 a10 f (nI l) y (nI k - 1) := fun l y h1 h2 => ih k (by omega) l y h1 h2
      refine br_f (nI_pos (by omega)) (hG _ k (by omega) (br_c (fun e3 => nm_r (nI_1 lev) ?_) (fun n3 => ?_)))
      · refine br_f (ps_n2 e3) (ps_c79 (by omega) (fun q => absurd q (ps_n2 e3)) (fun _ q => absurd q (ps_n2 e3)) (fun _ => go (lev + 1) x9 (by omega) ?_))
        rw [ps_st_3 e3] at hx
        rcases hx with ⟨h9, hh⟩ | hx
        · exact Or.inl ⟨h9, by rw [hh, List.drop_tail]⟩
        · exact Or.inr hx
      · refine br_c (fun e2 => ?_) (fun n2 => ps_c79 (by omega) (fun q => absurd q n2) (fun _ q => absurd q n2) (fun _ => go lev x9 (by omega) (by rw [ps_st_n n2 n3] at hx; exact hx)))
        rw [ps_st_2 e2] at hx
        refine pk_eq lev 0 (fun z => ?_) (fun z => ?_)
        · subst z
          rcases hx with ⟨h9, hh⟩ | ⟨h, t, hs, h9⟩
          · subst h9
            refine br_f (by decide) (ps_c79 (by omega) (fun _ _ => go 0 (nI k) (by omega) (Or.inr ?_)) (fun l _ q => absurd q (by omega)) (fun q => absurd e2 q))
            cases hs : ps_st so i with
            | nil => rw [hs] at hh; exact absurd hh (by simp)
            | cons a b =>
              rw [hs] at hh
              have e : a = k := by simpa using hh
              exact ⟨a, b, rfl, by rw [e]⟩
          · subst h9
            have := (ps_st_el i h (by rw [hs]; simp)).1
            exact br_t (nI_pos' (by omega)) (ps_c79 (by omega) (fun _ _ => go 0 (nI h) (by omega) (Or.inr ⟨h, t, hs, rfl⟩)) (fun l _ q => absurd q (by omega)) (fun q => absurd e2 q))
        · refine ps_c79 (by omega) (fun _ q => absurd q z) (fun l _ q => go l x9 (by omega) ?_) (fun q => absurd e2 q)
          rw [q, List.drop_succ_cons] at hx
          exact hx
theorem ps_counted_loop (wf : ps_wf so n) (hG : ps_G lo hi n so)
    (H : ∀ (me la lr gc : Int32) (a3 a4 a5 a6 a7 a8 a9 a10 : Nat → Int32), (¬ la = 0 → ps_LF so n lr a7 a9) → post 1 (pw, (nI n), uc, me, la, lr, gc, so, a2, a3, a4, a5, a6, a7, a8, a9, a10)) :
    ∀ (f i : Nat), i ≤ n → n - i < f → ∀ (c : Nat) (me la lr gc : Int32) (a3 a4 a5 a6 a7 a8 a9 a10 : Nat → Int32), (¬ la = 0 → ps_LF so n lr a7 a9) → (∀ F, (¬ la = 0 → F = a9) → c = 1 + ps_rr so F i) →
      wL_counted_6 post lo hi (nI n) f (nI c) (nI i) pw (nI n) uc me la lr gc so a2 a3 a4 a5 a6 a7 a8 a9 a10 := by
  have hn := wf.1
  intro f
  induction f with
  | zero => intro i _ h; exact absurd h (by omega)
  | succ f ih =>
    intro i hi hf c me la lr gc a3 a4 a5 a6 a7 a8 a9 a10 hL hc
    refine pk_le n i (fun z => ?_) (fun z => hG _ i z (br_c (fun e1 => nm_e ⟨i + 1, ?_⟩) (fun n1 => nm_r (nI_1 i) ?_)))
    · have e : i = n := by omega
      subst e
      refine ps_rows wf hL (fun me' la' lr' gc' a3' a4' a5' a6' a7' a8' a9' a10' l1 f1 n1 => br_t ?_ (H me' la' lr' gc' a3' a4' a5' a6' a7' a8' a9' a10' (fun _ => f1)))
      rw [f1.2.2, hc a9' n1, nI_1, Nat.add_comm]
    · refine ps_scan wf hG z (fun f' x8 x9 hz => ?_) (i + 1) i (by omega) 0 (-1) (by omega) (Or.inl ⟨rfl, rfl⟩)
      refine br_t (by decide) ?_
      cases hs : ps_st so i with
      | nil =>
        rw [hs] at hz
        have e9 : x9 = -1 := hz
        subst e9
        refine br_t (by decide) (nm_r (nI_1 c) (nm_r (nI_1 i) (ih (i + 1) z (by omega) (c + 1) me la lr gc a3 a4 a5 a6 a7 a8 a9 a10 hL (fun F hF => ?_))))
        rw [ps_rr_1 e1 (by rw [hs]; rfl), hc F hF]
        rfl
      | cons h t =>
        rw [hs] at hz
        obtain ⟨hh, e9⟩ : h < 60 ∧ x9 = nI h := hz
        subst e9
        have hm := ps_st_el i h (by rw [hs]; simp)
        refine br_f (nI_pos (by omega)) (ps_flat wf (by omega) hL (fun q => absurd hm.2 q) (fun _ me' la' lr' gc' a3' a4' a5' a6' a7' a8' a9' a10' l1 f1 n1 => ⟨fun c0 => ?_, fun c1 => ?_⟩))
        · refine br_t rfl (nm_r (nI_1 c) (nm_r (nI_1 i) (ih (i + 1) z (by omega) (c + 1) me' la' lr' gc' a3' a4' a5' a6' a7' a8' a9' a10' (fun _ => f1) (fun F hF => ?_))))
          rw [hF l1, ps_rr_1 e1 (by rw [hs]; exact c0), hc a9' n1]
          rfl
        · refine br_f (by decide) (nm_r (nI_1 i) (ih (i + 1) z (by omega) c me' la' lr' gc' a3' a4' a5' a6' a7' a8' a9' a10' (fun _ => f1) (fun F hF => ?_)))
          rw [hF l1, ps_rr_k (fun _ => by rw [hs]; exact c1), hc a9' n1]
    · refine ih (i + 1) z (by omega) c me la lr gc a3 a4 a5 a6 a7 a8 a9 a10 hL (fun F hF => ?_)
      rw [ps_rr_k (fun q => absurd q n1)]
      exact hc F hF
theorem ps_counted_law (wf : ps_wf so n) (hG : ps_G lo hi n so) (hL : ¬ la = 0 → ps_LF so n lr a7 a9)
    (H : ∀ (me la lr gc : Int32) (a3 a4 a5 a6 a7 a8 a9 a10 : Nat → Int32), (¬ la = 0 → ps_LF so n lr a7 a9) → post 1 (pw, (nI n), uc, me, la, lr, gc, so, a2, a3, a4, a5, a6, a7, a8, a9, a10)) : wpL_counted post (pw, (nI n), uc, me, la, lr, gc, so, a2, a3, a4, a5, a6, a7, a8, a9, a10) lo hi (nI n) :=
  ⟨n + 1, ps_counted_loop wf hG H (n + 1) 0 (by omega) (by omega) 1 me la lr gc a3 a4 a5 a6 a7 a8 a9 a10 hL (fun F hF => rfl)⟩
end
end
section
/-- v is the first width (or 101) at which the rows are few enough -/
def ps_first (so sz re : Nat → Int32) (n : Nat) (R : Int32) (v : Nat) : Prop :=
  1 ≤ v ∧ v ≤ 101 ∧ (∀ w, 1 ≤ w → w < v → R < nI (ps_LR so sz re (nI w) n) + 1) ∧ (v ≤ 100 → ¬ R < nI (ps_LR so sz re (nI v) n) + 1)
theorem ps_first_u {so sz re : Nat → Int32} {n : Nat} {R : Int32} {v v' : Nat} (h : ps_first so sz re n R v) (h' : ps_first so sz re n R v') : v = v' := by
  rcases Nat.lt_trichotomy v v' with z | z | z
  · exact absurd (h'.2.2.1 v h.1 z) (h.2.2.2 (by have := h'.2.1; omega))
  · exact z
  · exact absurd (h.2.2.1 v' h'.1 z) (h'.2.2.2 (by have := h.2.1; omega))
section
variable {post : Int32 → St1 → Prop} {R pw uc me la lr gc : Int32} {so a2 a3 a4 a5 a6 a7 a8 a9 a10 : Nat → Int32} {n : Nat}
theorem ps_lw_loop (wf : ps_wf so n)
    (H : ∀ (v : Nat) (lr gc : Int32) (a5 a7 a8 a9 a10 : Nat → Int32), ps_first so a2 a3 n R v → post (nI v) (pw, (nI n), uc, me, la, lr, gc, so, a2, a3, a4, a5, a6, a7, a8, a9, a10)) :
    ∀ (f w : Nat), 1 ≤ w → w ≤ 101 → 101 - w < f → ∀ (lr gc : Int32) (a5 a7 a8 a9 a10 : Nat → Int32), (∀ w', 1 ≤ w' → w' < w → R < nI (ps_LR so a2 a3 (nI w') n) + 1) →
      wX_leastWidth_11 post R f (nI w) pw (nI n) uc me la lr gc so a2 a3 a4 a5 a6 a7 a8 a9 a10 := by
  intro f
  induction f with
  | zero => intro w _ _ h; exact absurd h (by omega)
  | succ f ih =>
    intro w h1 h2 hf lr gc a5 a7 a8 a9 a10 hw
    refine pk_lt 100 w (fun z => ?_) (fun z => ?_)
    · have e : w = 101 := by omega
      subst e
      exact H 101 lr gc a5 a7 a8 a9 a10 ⟨h1, h2, hw, fun q => absurd q (by omega)⟩
    · refine ps_layOut wf (fun gc' a5' a7' a8' a9' a10' hF => br_c (fun c => nm_r (nI_1 w) ?_) (fun c => ?_))
      · refine ih (w + 1) (by omega) (by omega) (by omega) _ gc' a5' a7' a8' a9' a10' (fun w' q1 q2 => ?_)
        by_cases e : w' = w
        · rw [e]; exact c
        · exact hw w' q1 (by omega)
      · exact H w _ gc' a5' a7' a8' a9' a10' ⟨h1, h2, hw, fun _ => c⟩
theorem ps_leastWidth (wf : ps_wf so n)
    (H : ∀ (v : Nat) (me' lr' gc' : Int32) (a3' a4' a5' a6' a7' a8' a9' a10' : Nat → Int32), ¬ me' = 0 → (¬ me = 0 → a3' = a3) → ps_first so a2 a3' n R v → post (nI v) (pw, (nI n), uc, me', 0, lr', gc', so, a2, a3', a4', a5', a6', a7', a8', a9', a10')) :
    wpX_leastWidth post (pw, (nI n), uc, me, la, lr, gc, so, a2, a3, a4, a5, a6, a7, a8, a9, a10) R := by
  unfold wpX_leastWidth
  dsimp only
  refine ps_measure wf (fun me' a3' a4' a5' a6' hm h3 => ⟨101, ?_⟩)
  exact ps_lw_loop wf (fun v lr' gc' a5'' a7' a8' a9' a10' hv => H v me' lr' gc' a3' a4' a5'' a6' a7' a8' a9' a10' hm h3 hv) 101 1 (by omega) (by omega) (by omega) lr gc a5' a7 a8 a9 a10 (fun w' q1 q2 => absurd q2 (by omega))
end
section
variable {post : St1 → Prop} {x pw pc uc me la lr gc : Int32} {a1 a2 a3 a4 a5 a6 a7 a8 a9 a10 : Nat → Int32}
theorem ps_width (H : ∀ pw', post (pw', pc, uc, me, 0, lr, gc, a1, a2, a3, a4, a5, a6, a7, a8, a9, a10)) : wpX_width post (pw, pc, uc, me, la, lr, gc, a1, a2, a3, a4, a5, a6, a7, a8, a9, a10) x :=
  br_c (fun _ => br_c (fun _ => H _) (fun _ => H _)) (fun _ => H _)
theorem ps_width1 (h1 : 1 ≤ x) (h2 : x ≤ 100) (H : post (x, pc, uc, me, 0, lr, gc, a1, a2, a3, a4, a5, a6, a7, a8, a9, a10)) : wpX_width post (pw, pc, uc, me, la, lr, gc, a1, a2, a3, a4, a5, a6, a7, a8, a9, a10) x :=
  br_t h1 (br_t h2 H)
end
section
variable {post : Int32 → St1 → Prop} {R W pw uc me la lr gc : Int32} {so a2 a3 a4 a5 a6 a7 a8 a9 a10 : Nat → Int32} {n v : Nat}
theorem ps_least_loop (wf : ps_wf so n) (hv : ps_first so a2 a3 n R v) (H : ∀ u, post 1 u) :
    ∀ (f w : Nat), 1 ≤ w → w ≤ 101 → 101 - w < f → ∀ (pw : Int32) (me la lr gc : Int32) (a4 a5 a6 a7 a8 a9 a10 : Nat → Int32), ¬ me = 0 → wL_least_22 post R W (nI v) f (nI w) pw (nI n) uc me la lr gc so a2 a3 a4 a5 a6 a7 a8 a9 a10 := by
  have hv2 := hv.2.1
  intro f
  induction f with
  | zero => intro w _ _ h; exact absurd h (by omega)
  | succ f ih =>
    intro w h1 h2 hf pw me la lr gc a4 a5 a6 a7 a8 a9 a10 hm
    refine pk_lt 100 w (fun z => ?_) (fun z => ?_)
    · refine ps_width (fun pw' => ?_)
      refine ps_leastWidth wf (fun v' me' lr' gc' a3' a4' a5' a6' a7' a8' a9' a10' hm' h3 hv' => ?_)
      have e := h3 hm
      subst e
      exact br_t (by rw [ps_first_u hv hv']) (H _)
    · refine ps_width1 (nI_le h1 (by omega)) (nI_le (b := 100) z (by decide)) ?_
      refine pk_le v w (fun q => ?_) (fun q => ?_)
      · refine pk_eq w v (fun e => ?_) (fun e => nm_r (nI_1 w) (ih (w + 1) (by omega) (by omega) (by omega) _ me 0 lr gc a4 a5 a6 a7 a8 a9 a10 hm))
        subst e
        refine ps_rows0 wf rfl hm (fun me' la' lr' gc' a4' a5' a6' a7' a8' a9' a10' hm' hl => ?_)
        refine br_t ?_ (nm_r (nI_1 w) (ih (w + 1) (by omega) (by omega) (by omega) _ me' la' lr' gc' a4' a5' a6' a7' a8' a9' a10' hm'))
        rw [hl]
        exact Int32.not_lt.mp (hv.2.2.2 z)
      · refine ps_rows0 wf rfl hm (fun me' la' lr' gc' a4' a5' a6' a7' a8' a9' a10' hm' hl => ?_)
        refine br_f ?_ (pk_eq w v (fun e => absurd e (by omega)) (fun e => nm_r (nI_1 w) (ih (w + 1) (by omega) (by omega) (by omega) _ me' la' lr' gc' a4' a5' a6' a7' a8' a9' a10' hm')))
        rw [hl]
        exact Int32.not_le.mpr (hv.2.2.1 w h1 q)
theorem ps_least_law (wf : ps_wf so n) (H : ∀ u, post 1 u) : wpL_least post (pw, (nI n), uc, me, la, lr, gc, so, a2, a3, a4, a5, a6, a7, a8, a9, a10) R W := by
  unfold wpL_least
  dsimp only
  refine ps_leastWidth wf (fun v me' lr' gc' a3' a4' a5' a6' a7' a8' a9' a10' hm h3 hv => ?_)
  have hv1 := hv.1
  have hv2 := hv.2.1
  exact pk_lt v 1 (fun z => absurd z (by omega)) (fun _ => pk_le v 101 (fun _ => ⟨101, ps_least_loop wf hv H 101 1 (by omega) (by omega) (by omega) pw me' 0 lr' gc' a4' a5' a6' a7' a8' a9' a10' hm⟩) (fun z => absurd z (by omega)))
end
end
section
theorem ps_st_u {so : Nat → Int32} {n i : Nat} {s : Int32} (hi : i ≤ n) : ps_st (upd so n s) i = ps_st so i :=
  ps_st_cg i (fun j hj => pk_un (by omega))
theorem ps_wf_add {so : Nat → Int32} {n : Nat} {s : Int32} (wf : ps_wf so n) (hn : n < 60) (hs : s = 0 ∨ s = 1 ∨ s = 2 ∨ s = 3) (h3 : s = 3 → ¬ ps_st so n = []) (h2 : s = 2 → (ps_st so n).length < 12) : ps_wf (upd so n s) (n + 1) := by
  obtain ⟨k0, k1, k2, k3⟩ := wf
  refine ⟨by omega, ?_, ?_, ?_⟩
  · intro i hi
    by_cases e : i = n
    · rw [e, pk_us]; exact hs
    · rw [pk_un e]; exact k1 i (by omega)
  · intro i hi
    rw [ps_st_u (show i ≤ n by omega)]
    by_cases e : i = n
    · rw [e, pk_us]; exact h3
    · rw [pk_un e]; exact k2 i (by omega)
  · intro i hi
    by_cases e : i = n + 1
    · have l := k3 n (Nat.le_refl n)
      rw [e]
      by_cases e2 : s = 2
      · rw [ps_st_2 (pk_us.trans e2), ps_st_u (Nat.le_refl n)]
        exact h2 e2
      · by_cases e3 : s = 3
        · rw [ps_st_3 (pk_us.trans e3), ps_st_u (Nat.le_refl n), List.length_tail]
          omega
        · rw [ps_st_n (by rw [pk_us]; exact e2) (by rw [pk_us]; exact e3), ps_st_u (Nat.le_refl n)]
          exact l
    · rw [ps_st_u (show i ≤ n by omega)]
      exact k3 i (by omega)
/-- unclosed as it will be -/
theorem ps_uc_2 {so : Nat → Int32} {n : Nat} : (ps_st (upd so n 2) (n + 1)).length = (ps_st so n).length + 1 := by
  rw [ps_st_2 pk_us, ps_st_u (Nat.le_refl n)]; rfl
theorem ps_uc_3 {so : Nat → Int32} {n : Nat} : (ps_st (upd so n 3) (n + 1)).length = (ps_st so n).length - 1 := by
  rw [ps_st_3 pk_us, ps_st_u (Nat.le_refl n), List.length_tail]
theorem ps_uc_n {so : Nat → Int32} {n : Nat} {s : Int32} (h2 : ¬ s = 2) (h3 : ¬ s = 3) : (ps_st (upd so n s) (n + 1)).length = (ps_st so n).length := by
  rw [ps_st_n (by rw [pk_us]; exact h2) (by rw [pk_us]; exact h3), ps_st_u (Nat.le_refl n)]
section
variable {post : Int32 → St1 → Prop} {s x pw uc me la lr gc : Int32} {so a2 a3 a4 a5 a6 a7 a8 a9 a10 : Nat → Int32} {n : Nat}
theorem ps_addPiece (hn : n ≤ 60) (Hf : post (-1) (pw, (nI n), uc, me, la, lr, gc, so, a2, a3, a4, a5, a6, a7, a8, a9, a10)) (Hs : n < 60 → post (nI (n + 1)) (pw, nI (n + 1), uc, 0, 0, lr, gc, upd so n s, upd a2 n x, a3, a4, a5, a6, a7, a8, a9, a10)) : wpX_addPiece post (pw, (nI n), uc, me, la, lr, gc, so, a2, a3, a4, a5, a6, a7, a8, a9, a10) s x := by
  refine pk_lt n 60 (fun z => ⟨pk_in n 60 z, ?_⟩) (fun _ => Hf)
  rw [nI_clamp (show n < 2 ^ 31 by omega)]
  exact nm_e ⟨pk_in n 60 z, nm_e (nm_r (nI_1 n) (Hs z))⟩
end
end
section
section
variable {post : Int32 → Prop} {L : Nat} {xs : Nat → Int32} {J : Int32 → Int64 → Int64 → Int32 → Int32 → Int32 → Int32 → Int32 → Int32 → Int32 → Int32 → Int32 → (Nat → Int32) → (Nat → Int32) → (Nat → Int32) → (Nat → Int32) → (Nat → Int32) → (Nat → Int32) → (Nat → Int32) → (Nat → Int32) → (Nat → Int32) → (Nat → Int32) → Prop} {x1 x9 x10 pw pc uc me la lr gc : Int32} {lo hi : Int64} {kc ks : Nat} {so a1 a2 a3 a4 a5 a6 a7 a8 a9 a10 : Nat → Int32} {n i c : Nat}
theorem ps_G_of (wf : ps_wf so n) (hb : ps_bits lo hi n so) : ps_G lo hi n so := fun P i hi' H => ps_get wf.1 hb hi' H
theorem ps_233 (wf : ps_wf so n) (hb : ps_bits lo hi n so) (hL : ¬ la = 0 → ps_LF so n lr a7 a9)
    (H : ∀ (me la lr gc : Int32) (a3 a4 a5 a6 a7 a8 a9 a10 : Nat → Int32), (¬ la = 0 → ps_LF so n lr a7 a9) → J x1 lo hi (nI n) (nI (i + 2)) pw (nI n) uc me la lr gc so a2 a3 a4 a5 a6 a7 a8 a9 a10) :
    wL_law_233 post L xs J x1 lo hi (nI n) (nI i) x10 kc ks pw (nI n) uc me la lr gc so a2 a3 a4 a5 a6 a7 a8 a9 a10 := by
  have hG := ps_G_of wf hb
  refine br_c (fun _ => ?_) (fun _ => nm_r (nI_add i 2) (H me la lr gc a3 a4 a5 a6 a7 a8 a9 a10 hL))
  refine ps_flat_law wf hG hL (fun me' la' lr' gc' a3' a4' a5' a6' a7' a8' a9' a10' h1 => br_f (by decide) ?_)
  exact ps_counted_law wf hG h1 (fun me2 la2 lr2 gc2 b3 b4 b5 b6 b7 b8 b9 b10 h2 => br_f (by decide) (nm_r (nI_add i 2) (H me2 la2 lr2 gc2 b3 b4 b5 b6 b7 b8 b9 b10 h2)))
theorem ps_158n {x11 : Int32} (H : wL_law_233 post L xs J x1 lo hi (nI n) (nI i) x10 kc ks pw pc uc me la lr gc a1 a2 a3 a4 a5 a6 a7 a8 a9 a10) : wL_law_158 post L xs J x1 lo hi (nI n) (nI i) x10 x11 (-1) kc ks pw pc uc me la lr gc a1 a2 a3 a4 a5 a6 a7 a8 a9 a10 :=
  br_t (by decide) H
theorem ps_158y (hn : n < 60) (hc : c < 4) (hb : ps_bits lo hi n so)
    (H : ∀ lo' hi', ps_bits lo' hi' (n + 1) (upd so n (nI c)) → wL_law_233 post L xs J x1 lo' hi' (nI (n + 1)) (nI i) x10 kc ks pw pc uc me la lr gc a1 a2 a3 a4 a5 a6 a7 a8 a9 a10) :
    wL_law_158 post L xs J x1 lo hi (nI n) (nI i) x10 (nI c) (nI (n + 1)) kc ks pw pc uc me la lr gc a1 a2 a3 a4 a5 a6 a7 a8 a9 a10 := by
  refine br_f (nI_pos (by omega)) (pk_le 30 n (fun z => ?_) (fun z => ?_))
  · exact br_t (nI_le z (by omega)) (H _ _ (ps_bits_hi hb z hn hc))
  · exact br_f (nI_ge (b := 30) z (by decide)) (H _ _ (ps_bits_lo hb z hc))
end
section
variable {post : Int32 → Prop} {L : Nat} {xs : Nat → Int32} {J : Int32 → Int64 → Int64 → Int32 → Int32 → Int32 → Int32 → Int32 → Int32 → Int32 → Int32 → Int32 → (Nat → Int32) → (Nat → Int32) → (Nat → Int32) → (Nat → Int32) → (Nat → Int32) → (Nat → Int32) → (Nat → Int32) → (Nat → Int32) → (Nat → Int32) → (Nat → Int32) → Prop} {x1 x9 x10 pw uc me la lr gc : Int32} {lo hi : Int64} {kc ks : Nat} {so a2 a3 a4 a5 a6 a7 a8 a9 a10 : Nat → Int32} {n i c : Nat}
theorem ps_96 (wf : ps_wf so n) (hb : ps_bits lo hi n so) (hu : uc = nI (ps_st so n).length) (hL : ¬ la = 0 → ps_LF so n lr a7 a9) (hc : c < 4)
    (H : ∀ (x1 : Int32) (lo hi : Int64) (n : Nat) (pw uc : Int32) (so a2 : Nat → Int32) (me la lr gc : Int32) (a3 a4 a5 a6 a7 a8 a9 a10 : Nat → Int32), ps_wf so n → ps_bits lo hi n so → uc = nI (ps_st so n).length → (¬ la = 0 → ps_LF so n lr a7 a9) → J x1 lo hi (nI n) (nI (i + 2)) pw (nI n) uc me la lr gc so a2 a3 a4 a5 a6 a7 a8 a9 a10) :
    wL_law_96 post L xs J x1 lo hi (nI n) (nI i) x9 x10 (nI c) kc ks pw (nI n) uc me la lr gc so a2 a3 a4 a5 a6 a7 a8 a9 a10 := by
  have hn := wf.1
  have hl := wf.2.2.2 n (Nat.le_refl n)
  have same : ∀ x11, wL_law_158 post L xs J x1 lo hi (nI n) (nI i) x10 x11 (-1) kc ks pw (nI n) uc me la lr gc so a2 a3 a4 a5 a6 a7 a8 a9 a10 := fun x11 =>
    ps_158n (ps_233 wf hb hL (fun me' la' lr' gc' a3' a4' a5' a6' a7' a8' a9' a10' h => H x1 lo hi n pw uc so a2 me' la' lr' gc' a3' a4' a5' a6' a7' a8' a9' a10' wf hb hu h))
  have more : n < 60 → ∀ (uc' : Int32) (a2' : Nat → Int32), ps_wf (upd so n (nI c)) (n + 1) → uc' = nI (ps_st (upd so n (nI c)) (n + 1)).length →
      wL_law_158 post L xs J x1 lo hi (nI n) (nI i) x10 (nI c) (nI (n + 1)) kc ks pw (nI (n + 1)) uc' 0 0 lr gc (upd so n (nI c)) a2' a3 a4 a5 a6 a7 a8 a9 a10 := fun hn' uc' a2' wf' hu' =>
    ps_158y hn' hc hb (fun lo' hi' hb' => ps_233 wf' hb' (fun q => absurd rfl q) (fun me' la' lr' gc' a3' a4' a5' a6' a7' a8' a9' a10' h => H x1 lo' hi' (n + 1) pw uc' (upd so n (nI c)) a2' me' la' lr' gc' a3' a4' a5' a6' a7' a8' a9' a10' wf' hb' hu' h))
  refine br_c (fun _ => nm_e ?_) (fun _ => ?_)
  · exact ps_width (fun pw' => ps_233 wf hb (fun q => absurd rfl q) (fun me' la' lr' gc' a3' a4' a5' a6' a7' a8' a9' a10' h => H _ lo hi n pw' uc so a2 me' la' lr' gc' a3' a4' a5' a6' a7' a8' a9' a10' wf hb hu h))
  refine pk_eq c 0 (fun z => ?_) (fun z0 => pk_eq c 1 (fun z => ?_) (fun z1 => pk_eq c 2 (fun z => ?_) (fun z2 => ?_)))
  · subst z
    refine br_c (fun _ => same _) (fun _ => br_c (fun _ => ?_) (fun _ => same _))
    exact ps_addPiece hn (same _) (fun hn' => more hn' uc _ (ps_wf_add wf hn' (Or.inl rfl) (fun q => absurd q (by decide)) (fun q => absurd q (by decide))) (by rw [ps_uc_n (by decide) (by decide)]; exact hu))
  · subst z
    unfold wpX_lineBreak
    dsimp only
    exact ps_addPiece hn (same _) (fun hn' => more hn' uc _ (ps_wf_add wf hn' (Or.inr (Or.inl rfl)) (fun q => absurd q (by decide)) (fun q => absurd q (by decide))) (by rw [ps_uc_n (by decide) (by decide)]; exact hu))
  · subst z
    refine br_c (fun _ => same _) (fun _ => br_c (fun _ => same _) (fun _ => pk_lt (ps_st so n).length 12 (fun z => ?_) (fun _ => same _) hu))
    refine ps_addPiece hn (br_f (by decide) (nm_r (e' := uc) (Int32.add_zero uc) (same _))) (fun hn' => br_t (nI_pos' (by omega)) (nm_e ?_))
    exact more hn' _ _ (ps_wf_add wf hn' (Or.inr (Or.inr (Or.inl rfl))) (fun q => absurd q (by decide)) (fun _ => z)) (by rw [show nI 2 = 2 from rfl, ps_uc_2, hu]; exact nI_1 _)
  · have z : c = 3 := by omega
    subst z
    refine pk_eq (ps_st so n).length 0 (fun _ => same _) (fun z => ?_) hu
    refine ps_addPiece hn (br_f (by decide) (nm_r (e' := uc) (Int32.sub_zero uc) (same _))) (fun hn' => br_t (nI_pos' (by omega)) (nm_e ?_))
    exact more hn' _ _ (ps_wf_add wf hn' (Or.inr (Or.inr (Or.inr rfl))) (fun _ q => z (by rw [q]; rfl)) (fun q => absurd q (by decide))) (by rw [show nI 3 = 3 from rfl, ps_uc_3, hu]; exact pk_sub (b := 1) (by omega))
end
theorem ps_law_loop {xs : Nat → Int32} {L : Nat} (hL : L ≤ 260) {kc ks : Nat} :
    ∀ (f i : Nat), i ≤ L + 1 → L + 1 - i < f → ∀ (x1 : Int32) (lo hi : Int64) (n : Nat) (pw uc : Int32) (so a2 : Nat → Int32) (me la lr gc : Int32) (a3 a4 a5 a6 a7 a8 a9 a10 : Nat → Int32), ps_wf so n → ps_bits lo hi n so → uc = nI (ps_st so n).length → (¬ la = 0 → ps_LF so n lr a7 a9) →
      wL_law_37 (fun r => r = 1) L xs kc ks f x1 lo hi (nI n) (nI i) pw (nI n) uc me la lr gc so a2 a3 a4 a5 a6 a7 a8 a9 a10 := by
  intro f
  induction f with
  | zero => intro i _ h; exact absurd h (by omega)
  | succ f ih =>
    intro i hi hf x1 lo hi' n pw uc so a2 me la lr gc a3 a4 a5 a6 a7 a8 a9 a10 wf hb hu hLF
    have hG := ps_G_of wf hb
    have e2 : nI i + 2 = nI (i + 2) := nI_add i 2
    have e1 : nI i + 1 = nI (i + 1) := nI_1 i
    refine pk_lt L (i + 2) (fun z => ?_) (fun z => ⟨pk_in i L (by omega), nm_e ⟨pk_in (i + 1) L (by omega) e1, nm_e ?_⟩⟩) rfl e2
    · refine ps_flat_law wf hG hLF (fun me' la' lr' gc' a3' a4' a5' a6' a7' a8' a9' a10' h1 => br_f (by decide) ?_)
      refine ps_counted_law wf hG h1 (fun me2 la2 lr2 gc2 b3 b4 b5 b6 b7 b8 b9 b10 h2 => br_f (by decide) ?_)
      exact ps_least_law wf (fun u => br_f (by decide) rfl)
    · have go : ∀ (c : Nat) (x9 x10 : Int32), c < 4 → wL_law_96 (fun r => r = 1) L xs (wL_law_37 (fun r => r = 1) L xs kc ks f) x1 lo hi' (nI n) (nI i) x9 x10 (nI c) kc ks pw (nI n) uc me la lr gc so a2 a3 a4 a5 a6 a7 a8 a9 a10 := fun c x9 x10 hc =>
        ps_96 wf hb hu hLF hc (fun x1 lo hi n pw uc so a2 me la lr gc a3 a4 a5 a6 a7 a8 a9 a10 h1 h2 h3 h4 => ih (i + 2) (by omega) (by omega) x1 lo hi n pw uc so a2 me la lr gc a3 a4 a5 a6 a7 a8 a9 a10 h1 h2 h3 h4)
      exact br_c (fun _ => br_c (fun _ => br_c (fun _ => go 3 _ _ (by omega)) (fun _ => go 2 _ _ (by omega))) (fun _ => go 1 _ _ (by omega))) (fun _ => go 0 _ _ (by omega))
theorem ps_16 {xs : Nat → Int32} {L : Nat} (hL : L ≤ 260) (z : Int32) : wL_law_16 (fun r => r = 1) L xs z 0 0 := by
  refine ⟨by decide, by decide, 10, 552, by decide, by decide, ?_⟩
  refine ⟨by decide, by decide, by decide, by decide, by decide, by decide, by decide, by decide, by decide, by decide, by decide, by decide, by decide, by decide, by decide, by decide, by decide, by decide, by decide, by decide, ?_⟩
  refine ps_width (fun pw' => ⟨L + 2, ?_⟩)
  exact ps_law_loop hL (L + 2) 1 (by omega) (by omega) z 0 0 0 pw' 0 (fun _ => 0) (fun _ => 0) 0 0 0 0 (fun _ => 0) (fun _ => 0) (fun _ => 0) (fun _ => 0) (fun _ => 0) (fun _ => 0) (fun _ => 0) (fun _ => 0)
    ⟨by omega, fun i hi => absurd hi (by omega), fun i hi => absurd hi (by omega), fun i hi => by rw [show i = 0 by omega]; exact Nat.zero_le _⟩ ps_bits_0 rfl (fun q => absurd rfl q)
theorem i_vc (xs : Nat → Int32) (L : Nat) (hL : L ≤ 260) : wpL_law (fun r => r = 1) L xs :=
  pk_le L 0 (fun _ => ps_16 hL _) (fun z => ⟨pk_in 0 L z, ps_16 hL _⟩)
end

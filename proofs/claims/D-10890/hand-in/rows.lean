section
/-! the net: g = 1: one road from A to B, l long; g = 0: none -/
def rs_R (g A B l i : Nat) : Nat := if g = 1 ∧ i = A * 12 + B then l else 1000000
def rs_D (g A B l s t : Nat) : Nat := if s = t then 0 else if g = 1 ∧ s = A ∧ t = B then l else 1000000
def rs_e (s p : Nat) : Nat := if p = s then 0 else 1000000
def rs_ok (g A B l : Nat) : Prop := g ≤ 1 ∧ A < 12 ∧ B < 12 ∧ A ≠ B ∧ 1 ≤ l ∧ l ≤ 30
/-- how many of the first n places hold 0 -/
def rs_cnt (f : Nat → Int32) : Nat → Nat
  | 0 => 0
  | n + 1 => rs_cnt f n + (if f n = 0 then 1 else 0)
theorem rs_cnt_le (f : Nat → Int32) (n : Nat) : rs_cnt f n ≤ n := by
  induction n with
  | zero => exact Nat.le_refl 0
  | succ n ih =>
    show rs_cnt f n + (if f n = 0 then 1 else 0) ≤ n + 1
    split <;> omega
theorem rs_cnt_same {f f' : Nat → Int32} {n : Nat} (h : ∀ p, p < n → (f' p = 0 ↔ f p = 0)) : rs_cnt f' n = rs_cnt f n := by
  induction n with
  | zero => rfl
  | succ n ih =>
    have h1 := ih (fun p hp => h p (by omega))
    have h2 := h n (by omega)
    show rs_cnt f' n + (if f' n = 0 then 1 else 0) = rs_cnt f n + (if f n = 0 then 1 else 0)
    rw [h1]
    by_cases z : f n = 0
    · rw [if_pos z, if_pos (h2.mpr z)]
    · rw [if_neg z, if_neg (fun y => z (h2.mp y))]
theorem rs_cnt_one {f f' : Nat → Int32} {b : Nat} (h0 : f b = 0) (h1 : ¬ f' b = 0) : ∀ n, b < n → (∀ p, p < n → p ≠ b → (f' p = 0 ↔ f p = 0)) → rs_cnt f' n + 1 = rs_cnt f n := by
  intro n
  induction n with
  | zero => intro hb; omega
  | succ n ih =>
    intro hb h
    show rs_cnt f' n + (if f' n = 0 then 1 else 0) + 1 = rs_cnt f n + (if f n = 0 then 1 else 0)
    by_cases e : b = n
    · have e1 : f n = 0 := by rw [← e]; exact h0
      have e2 : ¬ f' n = 0 := by rw [← e]; exact h1
      have e3 : rs_cnt f' n = rs_cnt f n := rs_cnt_same (fun p hp => h p (by omega) (by omega))
      rw [if_pos e1, if_neg e2, e3]
    · have i1 := ih (by omega) (fun p hp hq => h p (by omega) hq)
      have h2 := h n (by omega) (fun z => e z.symm)
      by_cases z : f n = 0
      · rw [if_pos z, if_pos (h2.mpr z)]; omega
      · rw [if_neg z, if_neg (fun y => z (h2.mp y))]; omega
theorem rs_cnt_upd {f : Nat → Int32} {u : Nat} (hu : u < 12) (h0 : f u = 0) : rs_cnt (upd f u 1) 12 < rs_cnt f 12 := by
  have h := rs_cnt_one (f' := upd f u 1) h0 (by rw [pk_us]; decide) 12 hu (fun p _ hp => by rw [pk_un hp])
  omega
theorem rs_cnt_upd2 {f : Nat → Int32} {u : Nat} (hu : u < 12) (h0 : f u = 0) : rs_cnt (upd (upd f u 1) u 1) 12 < rs_cnt f 12 := by
  have h := rs_cnt_one (f' := upd (upd f u 1) u 1) h0 (by rw [pk_us]; decide) 12 hu (fun p _ hp => by rw [pk_un hp, pk_un hp])
  omega
theorem rs_cnt_pos {f : Nat → Int32} : ∀ n, 0 < rs_cnt f n → ∃ p, p < n ∧ f p = 0 := by
  intro n
  induction n with
  | zero => intro h; exact absurd h (Nat.lt_irrefl 0)
  | succ n ih =>
    intro h
    by_cases z : f n = 0
    · exact ⟨n, by omega, z⟩
    · have h' : 0 < rs_cnt f n + (if f n = 0 then 1 else 0) := h
      rw [if_neg z] at h'
      obtain ⟨p, hp, e⟩ := ih h'
      exact ⟨p, by omega, e⟩
theorem rs_cnt_all {f : Nat → Int32} : ∀ n, (∀ p, p < n → f p = 0) → rs_cnt f n = n := by
  intro n
  induction n with
  | zero => intro _; rfl
  | succ n ih =>
    intro h
    show rs_cnt f n + (if f n = 0 then 1 else 0) = n + 1
    rw [if_pos (h n (by omega)), ih (fun p hp => h p (by omega))]
theorem rs_cnt_none {f : Nat → Int32} : ∀ n, rs_cnt f n = 0 → ∀ p, p < n → ¬ f p = 0 := by
  intro n
  induction n with
  | zero => intro _ p hp; omega
  | succ n ih =>
    intro h p hp e
    have h' : rs_cnt f n + (if f n = 0 then 1 else 0) = 0 := h
    by_cases z : f n = 0
    · rw [if_pos z] at h'; omega
    · rw [if_neg z] at h'
      by_cases q : p = n
      · rw [q] at e; exact z e
      · exact ih (by omega) p (by omega) e
/-! stores -/
theorem rs_fill {P : Nat → Int32 → Prop} {b : Nat → Int32} {i : Nat} {x : Int32} (h : ∀ p, p < i → P p (b p)) (hx : P i x) : ∀ p, p < i + 1 → P p (upd b i x p) := by
  intro p hp
  by_cases e : p = i
  · rw [e, pk_us]; exact hx
  · rw [pk_un e]; exact h p (by omega)
theorem rs_put {P : Nat → Int32 → Prop} {b : Nat → Int32} {i n : Nat} {x : Int32} (h : ∀ p, p < n → p ≠ i → P p (b p)) (hx : i < n → P i x) : ∀ p, p < n → P p (upd b i x p) := by
  intro p hp
  by_cases e : p = i
  · rw [e, pk_us]; exact hx (by omega)
  · rw [pk_un e]; exact h p hp e
theorem rs_rd {a : Nat → Int32} {x : Int32} {n : Nat} {v : Int32} (hx : x = nI n) (hn : n < 2 ^ 31) (h : a n = v) : a x.toNatClampNeg = v := by
  rw [hx, nI_clamp hn, h]
theorem rs_ix (u p : Nat) : nI u * 12 + nI p = nI (u * 12 + p) := by
  show nI u * nI 12 + nI p = nI (u * 12 + p)
  rw [pk_mul, nI_add]
theorem rs_dv {i : Nat} (hi : i < 2 ^ 31) : nI i / 12 = nI (i / 12) := pk_div (d := 12) hi (by omega) (by omega)
theorem rs_md {i : Nat} (hi : i < 2 ^ 31) : nI i - nI i / 12 * 12 = nI (i % 12) := pk_rem (d := 12) hi (by omega) (by omega)
theorem rs_far : (1000000 : Int32) = nI 1000000 := rfl
/-! distances -/
section
variable {g A B l : Nat}
theorem rs_Dc (g A B l s t : Nat) : (s = t ∧ rs_D g A B l s t = 0) ∨ (s ≠ t ∧ g = 1 ∧ s = A ∧ t = B ∧ rs_D g A B l s t = l) ∨ (s ≠ t ∧ ¬ (g = 1 ∧ s = A ∧ t = B) ∧ rs_D g A B l s t = 1000000) := by
  unfold rs_D
  by_cases h : s = t
  · exact Or.inl ⟨h, if_pos h⟩
  · by_cases h2 : g = 1 ∧ s = A ∧ t = B
    · exact Or.inr (Or.inl ⟨h, h2.1, h2.2.1, h2.2.2, by rw [if_neg h, if_pos h2]⟩)
    · exact Or.inr (Or.inr ⟨h, h2, by rw [if_neg h, if_neg h2]⟩)
theorem rs_Rc (k : rs_ok g A B l) {s t : Nat} (ht : t < 12) : (g = 1 ∧ s = A ∧ t = B ∧ rs_R g A B l (s * 12 + t) = l) ∨ (¬ (g = 1 ∧ s = A ∧ t = B) ∧ rs_R g A B l (s * 12 + t) = 1000000) := by
  obtain ⟨_, _, hB, _⟩ := k
  unfold rs_R
  by_cases h2 : g = 1 ∧ s * 12 + t = A * 12 + B
  · exact Or.inl ⟨h2.1, by omega, by omega, if_pos h2⟩
  · exact Or.inr ⟨by omega, if_neg h2⟩
theorem rs_Rle (k : rs_ok g A B l) (i : Nat) : rs_R g A B l i ≤ 1000000 := by
  obtain ⟨_, _, _, _, _, _⟩ := k
  unfold rs_R
  split <;> omega
theorem rs_Dle (k : rs_ok g A B l) (s t : Nat) : rs_D g A B l s t ≤ 1000000 := by
  obtain ⟨_, _, _, _, _, _⟩ := k
  rcases rs_Dc g A B l s t with h | h | h <;> omega
theorem rs_Ds (s : Nat) : rs_D g A B l s s = 0 := by
  unfold rs_D
  rw [if_pos rfl]
theorem rs_tri (k : rs_ok g A B l) (s m t : Nat) : rs_D g A B l s t ≤ rs_D g A B l s m + rs_D g A B l m t := by
  obtain ⟨_, _, _, _, _, _⟩ := k
  rcases rs_Dc g A B l s t with h | h | h <;> rcases rs_Dc g A B l s m with h1 | h1 | h1 <;> rcases rs_Dc g A B l m t with h2 | h2 | h2 <;> omega
theorem rs_RD (k : rs_ok g A B l) {u p : Nat} (hp : p < 12) : rs_D g A B l u p ≤ rs_R g A B l (u * 12 + p) := by
  have k' := k
  obtain ⟨_, _, _, _, _, _⟩ := k'
  rcases rs_Dc g A B l u p with h | h | h <;> rcases rs_Rc k (s := u) hp with h1 | h1 <;> omega
end
/-! a search: w u p: how long it is from u to p at once; E p: how far p is in the end -/
def rs_T (w : Nat → Nat → Nat) (s : Nat) (E : Nat → Nat) : Prop := (∀ p, p < 12 → E p ≤ 1000000) ∧ (∀ p, p < 12 → min (rs_e s p) (w s p) = E p) ∧ (∀ u p, u < 12 → p < 12 → E p ≤ E u + w u p)
def rs_I (E : Nat → Nat) (s : Nat) (x y : Nat → Int32) : Prop := (y s = 0 ∧ ∀ p, p < 12 → x p = nI (rs_e s p)) ∨ (¬ y s = 0 ∧ ∀ p, p < 12 → x p = nI (E p))
def rs_O (E : Nat → Nat) (s : Nat) (y : Nat → Int32) (u : Nat) : Prop := u < 12 ∧ y u = 0 ∧ ((y s = 0 ∧ u = s) ∨ (¬ y s = 0 ∧ E u < 1000000))
def rs_Q (E : Nat → Nat) (s : Nat) (r : Int32) (x y : Nat → Int32) : Prop := (r = -1 ∧ ¬ y s = 0 ∧ (∀ p, p < 12 → x p = nI (E p)) ∧ ∀ p, p < 12 → y p = 0 → 1000000 ≤ E p) ∨ (∃ u, r = nI u ∧ rs_O E s y u ∧ rs_I E s x y)
theorem rs_e0 (s : Nat) : rs_e s s = 0 := if_pos rfl
theorem rs_eN {s p : Nat} (h : p ≠ s) : rs_e s p = 1000000 := if_neg h
theorem rs_ele (s p : Nat) : rs_e s p ≤ 1000000 := by
  unfold rs_e
  split <;> omega
theorem rs_phase {w : Nat → Nat → Nat} {E : Nat → Nat} {s u : Nat} {x y : Nat → Int32} (hT : rs_T w s E) (hO : rs_O E s y u) (hI : rs_I E s x y) :
    ∃ F : Nat → Nat, (∀ p, p < 12 → x p = nI (F p)) ∧ (∀ p, p < 12 → F p ≤ 1000000) ∧ (∀ p, p < 12 → min (F p) (F u + w u p) = E p) ∧ (∀ x', (∀ p, p < 12 → x' p = nI (E p)) → rs_I E s x' (upd y u 1)) ∧ F u < 1000000 := by
  obtain ⟨hu, hy, hc⟩ := hO
  obtain ⟨h1, h2, h3⟩ := hT
  rcases hI with ⟨i1, i2⟩ | ⟨i1, i2⟩
  · rcases hc with ⟨_, c2⟩ | ⟨c1, _⟩
    · refine ⟨rs_e s, i2, fun p _ => rs_ele s p, fun p hp => ?_, fun x' hx' => Or.inr ⟨?_, hx'⟩, ?_⟩
      · rw [c2, rs_e0, Nat.zero_add]; exact h2 p hp
      · rw [c2, pk_us]; decide
      · rw [c2, rs_e0]; omega
    · exact absurd i1 c1
  · rcases hc with ⟨c1, _⟩ | ⟨c1, c2⟩
    · exact absurd c1 i1
    · refine ⟨E, i2, h1, fun p hp => Nat.min_eq_left (h3 u p hu hp), fun x' hx' => Or.inr ⟨?_, hx'⟩, c2⟩
      by_cases e : s = u
      · rw [e, pk_us]; decide
      · rw [pk_un e]; exact i1
section
variable {g A B l : Nat}
theorem rs_TF (k : rs_ok g A B l) (s : Nat) : rs_T (fun u p => rs_R g A B l (u * 12 + p)) s (fun p => rs_D g A B l s p) := by
  refine ⟨fun p _ => rs_Dle k s p, fun p hp => ?_, fun u p hu hp => ?_⟩
  · have k' := k
    obtain ⟨_, _, _, _, _, _⟩ := k'
    show min (rs_e s p) (rs_R g A B l (s * 12 + p)) = rs_D g A B l s p
    by_cases e : p = s
    · rw [e, rs_e0, rs_Ds, Nat.zero_min]
    · rw [rs_eN e]
      rcases rs_Dc g A B l s p with h | h | h <;> rcases rs_Rc k (s := s) hp with h1 | h1 <;> omega
  · have h1 := rs_tri k s u p
    have h2 := rs_RD k (u := u) hp
    show rs_D g A B l s p ≤ rs_D g A B l s u + rs_R g A B l (u * 12 + p)
    omega
theorem rs_TB (k : rs_ok g A B l) {t : Nat} (ht : t < 12) : rs_T (fun u p => rs_R g A B l (p * 12 + u)) t (fun p => rs_D g A B l p t) := by
  refine ⟨fun p _ => rs_Dle k p t, fun p hp => ?_, fun u p hu hp => ?_⟩
  · have k' := k
    obtain ⟨_, _, _, _, _, _⟩ := k'
    show min (rs_e t p) (rs_R g A B l (p * 12 + t)) = rs_D g A B l p t
    by_cases e : p = t
    · rw [e, rs_e0, rs_Ds, Nat.zero_min]
    · rw [rs_eN e]
      rcases rs_Dc g A B l p t with h | h | h <;> rcases rs_Rc k (s := p) ht with h1 | h1 <;> omega
  · have h1 := rs_tri k p u t
    have h2 := rs_RD k (u := p) hu
    show rs_D g A B l p t ≤ rs_D g A B l u t + rs_R g A B l (p * 12 + u)
    omega
end
end
section
section
variable {f0 h0 : Int32} {a1 a2 a3 a4 a5 a6 a7 a8 a9 a10 a11 a12 a13 a14 a15 a16 a17 a18 a19 a20 a21 a22 : Nat → Int32}
/-! startBoth -/
theorem rs_sb {post : St2 → Prop} {s t : Nat} (hs : s < 12) (ht : t < 12)
    (H : ∀ b7 b8 b9 b10 : Nat → Int32, (∀ p, p < 12 → b7 p = nI (rs_e s p)) → (∀ p, p < 12 → b8 p = 0) → (∀ p, p < 12 → b9 p = nI (rs_e t p)) → (∀ p, p < 12 → b10 p = 0) → post (f0, h0, a1, a2, a3, a4, a5, a6, b7, b8, b9, b10, a11, a12, a13, a14, a15, a16, a17, a18, a19, a20, a21, a22)) :
    ∀ (n i : Nat) (b7 b8 b9 b10 : Nat → Int32), i ≤ 12 → 12 - i < n → (∀ p, p < i → b7 p = nI (rs_e s p)) → (∀ p, p < i → b8 p = 0) → (∀ p, p < i → b9 p = nI (rs_e t p)) → (∀ p, p < i → b10 p = 0) →
      wX_startBoth_2 post (nI s) (nI t) f0 h0 n (nI i) a1 a2 a3 a4 a5 a6 b7 b8 b9 b10 a11 a12 a13 a14 a15 a16 a17 a18 a19 a20 a21 a22 := by
  intro n
  induction n with
  | zero => intro i b7 b8 b9 b10 hi hn; exact absurd hn (by omega)
  | succ n ih =>
    intro i b7 b8 b9 b10 hi hn h7 h8 h9 h10
    refine pk_le 12 i (fun z => ?_) (fun z => ?_)
    · have e : i = 12 := by omega
      rw [e] at h7 h8 h9 h10
      exact H b7 b8 b9 b10 h7 h8 h9 h10
    · have key : ∀ z7 z9 : Int32, z7 = nI (rs_e s i) → z9 = nI (rs_e t i) → wX_startBoth_2 post (nI s) (nI t) f0 h0 n (nI (i + 1)) a1 a2 a3 a4 a5 a6 (upd b7 i z7) (upd b8 i 0) (upd b9 i z9) (upd b10 i 0) a11 a12 a13 a14 a15 a16 a17 a18 a19 a20 a21 a22 :=
        fun z7 z9 e7 e9 => ih (i + 1) _ _ _ _ (by omega) (by omega) (rs_fill (P := fun p x => x = nI (rs_e s p)) h7 e7) (rs_fill (P := fun p x => x = 0) h8 rfl) (rs_fill (P := fun p x => x = nI (rs_e t p)) h9 e9) (rs_fill (P := fun p x => x = 0) h10 rfl)
      have hcl : (nI i).toNatClampNeg = i := nI_clamp (by omega)
      have q41 : ∀ z9 z7 : Int32, z7 = nI (rs_e s i) → z9 = nI (rs_e t i) → wX_startBoth_41 post (wX_startBoth_2 post (nI s) (nI t) f0 h0 n) (nI s) (nI t) (nI i) z9 (nI i) f0 h0 a1 a2 a3 a4 a5 a6 (upd b7 i z7) b8 b9 b10 a11 a12 a13 a14 a15 a16 a17 a18 a19 a20 a21 a22 := by
        intro z9 z7 e7 e9
        unfold wX_startBoth_41
        rw [hcl]
        exact ⟨pk_in i 12 z, nm_e ⟨pk_in i 12 z, nm_e ⟨pk_in i 12 z, nm_e (nm_r (nI_1 i) (key z7 z9 e7 e9))⟩⟩⟩
      have q24 : ∀ z7 : Int32, z7 = nI (rs_e s i) → wX_startBoth_24 post (wX_startBoth_2 post (nI s) (nI t) f0 h0 n) (nI s) (nI t) (nI i) z7 (nI i) f0 h0 a1 a2 a3 a4 a5 a6 b7 b8 b9 b10 a11 a12 a13 a14 a15 a16 a17 a18 a19 a20 a21 a22 := by
        intro z7 e7
        unfold wX_startBoth_24
        rw [hcl]
        refine ⟨pk_in i 12 z, nm_e ?_⟩
        exact pk_eq i t (fun c => q41 0 z7 e7 (by rw [c, rs_e0]; rfl)) (fun c => q41 1000000 z7 e7 (by rw [rs_eN c]; rfl))
      exact pk_eq i s (fun c => q24 0 (by rw [c, rs_e0]; rfl)) (fun c => q24 1000000 (by rw [rs_eN c]; rfl))
theorem rs_startBoth {post : St2 → Prop} {s t : Nat} (hs : s < 12) (ht : t < 12)
    (H : ∀ b7 b8 b9 b10 : Nat → Int32, (∀ p, p < 12 → b7 p = nI (rs_e s p)) → (∀ p, p < 12 → b8 p = 0) → (∀ p, p < 12 → b9 p = nI (rs_e t p)) → (∀ p, p < 12 → b10 p = 0) → post (f0, h0, a1, a2, a3, a4, a5, a6, b7, b8, b9, b10, a11, a12, a13, a14, a15, a16, a17, a18, a19, a20, a21, a22)) :
    wpX_startBoth post (f0, h0, a1, a2, a3, a4, a5, a6, a7, a8, a9, a10, a11, a12, a13, a14, a15, a16, a17, a18, a19, a20, a21, a22) (nI s) (nI t) := by
  unfold wpX_startBoth
  exact ⟨13, rs_sb hs ht H 13 0 a7 a8 a9 a10 (by omega) (by omega) (fun p hp => absurd hp (by omega)) (fun p hp => absurd hp (by omega)) (fun p hp => absurd hp (by omega)) (fun p hp => absurd hp (by omega))⟩
/-! nearestOpen -/
theorem rs_no4 {post : Int32 → Prop} {F : Nat → Nat} (h7 : ∀ p, p < 12 → a7 p = nI (F p)) (hF : ∀ p, p < 12 → F p ≤ 1000000)
    (H0 : (∀ p, p < 12 → a8 p = 0 → 1000000 ≤ F p) → post (-1)) (H1 : ∀ u, u < 12 → a8 u = 0 → F u < 1000000 → post (nI u)) :
    ∀ (n i : Nat) (x : Int32), i ≤ 12 → 12 - i < n → ((x = -1 ∧ ∀ p, p < i → a8 p = 0 → 1000000 ≤ F p) ∨ (∃ u, u < 12 ∧ x = nI u ∧ a8 u = 0 ∧ F u < 1000000)) → wX_nearestOpen_4 post f0 h0 a1 a2 a3 a4 a5 a6 a7 a8 a9 a10 a11 a12 a13 a14 a15 a16 a17 a18 a19 a20 a21 a22 n x (nI i) := by
  intro n
  induction n with
  | zero => intro i x hi hn; exact absurd hn (by omega)
  | succ n ih =>
    intro i x hi hn hI
    refine pk_le 12 i (fun z => ?_) (fun z => ⟨pk_in i 12 z, ?_⟩)
    · rcases hI with ⟨e, h⟩ | ⟨u, hu, e, h8, hf⟩
      · rw [e]; exact H0 (fun p hp => h p (by omega))
      · rw [e]; exact H1 u hu h8 hf
    · have hcl : (nI i).toNatClampNeg = i := nI_clamp (by omega)
      have hb := hF i z
      rw [hcl]
      have keep : (a8 i = 0 → 1000000 ≤ F i) → wX_nearestOpen_4 post f0 h0 a1 a2 a3 a4 a5 a6 a7 a8 a9 a10 a11 a12 a13 a14 a15 a16 a17 a18 a19 a20 a21 a22 n x (nI (i + 1)) := by
        intro c
        refine ih (i + 1) x (by omega) (by omega) ?_
        rcases hI with ⟨e, h⟩ | h
        · refine Or.inl ⟨e, fun p hp hq => ?_⟩
          by_cases e' : p = i
          · rw [e'] at hq ⊢; exact c hq
          · exact h p (by omega) hq
        · exact Or.inr h
      refine br_c (fun c => ⟨pk_in i 12 z, ?_⟩) (fun c => nm_r (nI_1 i) (keep (fun c' => absurd c' c)))
      refine pk_le 1000000 (F i) (fun c2 => nm_r (nI_1 i) (keep (fun _ => c2))) (fun c2 => ?_) rfl (h7 i z) (by omega) (by omega)
      have new : wX_nearestOpen_4 post f0 h0 a1 a2 a3 a4 a5 a6 a7 a8 a9 a10 a11 a12 a13 a14 a15 a16 a17 a18 a19 a20 a21 a22 n (nI i) (nI (i + 1)) := ih (i + 1) (nI i) (by omega) (by omega) (Or.inr ⟨i, z, rfl, c, c2⟩)
      rcases hI with ⟨e, h⟩ | ⟨u, hu, e, h8, hf⟩
      · exact br_t (by rw [e]; decide) (nm_r (nI_1 i) new)
      · have old : wX_nearestOpen_4 post f0 h0 a1 a2 a3 a4 a5 a6 a7 a8 a9 a10 a11 a12 a13 a14 a15 a16 a17 a18 a19 a20 a21 a22 n x (nI (i + 1)) := ih (i + 1) x (by omega) (by omega) (Or.inr ⟨u, hu, e, h8, hf⟩)
        refine br_f (by rw [e]; exact nI_pos (by omega)) ⟨pk_in i 12 z, pk_in u 12 hu e, ?_⟩
        exact br_c (fun _ => nm_r (nI_1 i) old) (fun _ => nm_r (nI_1 i) new)
theorem rs_nearestOpen {post : Int32 → Prop} {F : Nat → Nat} (h7 : ∀ p, p < 12 → a7 p = nI (F p)) (hF : ∀ p, p < 12 → F p ≤ 1000000)
    (H0 : (∀ p, p < 12 → a8 p = 0 → 1000000 ≤ F p) → post (-1)) (H1 : ∀ u, u < 12 → a8 u = 0 → F u < 1000000 → post (nI u)) :
    wpX_nearestOpen post (f0, h0, a1, a2, a3, a4, a5, a6, a7, a8, a9, a10, a11, a12, a13, a14, a15, a16, a17, a18, a19, a20, a21, a22) := by
  unfold wpX_nearestOpen
  exact ⟨13, rs_no4 h7 hF H0 H1 13 0 (-1) (by omega) (by omega) (Or.inl ⟨rfl, fun p hp => absurd hp (by omega)⟩)⟩
theorem rs_nb4 {post : Int32 → Prop} {F : Nat → Nat} (h9 : ∀ p, p < 12 → a9 p = nI (F p)) (hF : ∀ p, p < 12 → F p ≤ 1000000)
    (H0 : (∀ p, p < 12 → a10 p = 0 → 1000000 ≤ F p) → post (-1)) (H1 : ∀ u, u < 12 → a10 u = 0 → F u < 1000000 → post (nI u)) :
    ∀ (n i : Nat) (x : Int32), i ≤ 12 → 12 - i < n → ((x = -1 ∧ ∀ p, p < i → a10 p = 0 → 1000000 ≤ F p) ∨ (∃ u, u < 12 ∧ x = nI u ∧ a10 u = 0 ∧ F u < 1000000)) → wX_nearestOpenBack_4 post f0 h0 a1 a2 a3 a4 a5 a6 a7 a8 a9 a10 a11 a12 a13 a14 a15 a16 a17 a18 a19 a20 a21 a22 n x (nI i) := by
  intro n
  induction n with
  | zero => intro i x hi hn; exact absurd hn (by omega)
  | succ n ih =>
    intro i x hi hn hI
    refine pk_le 12 i (fun z => ?_) (fun z => ⟨pk_in i 12 z, ?_⟩)
    · rcases hI with ⟨e, h⟩ | ⟨u, hu, e, h8, hf⟩
      · rw [e]; exact H0 (fun p hp => h p (by omega))
      · rw [e]; exact H1 u hu h8 hf
    · have hcl : (nI i).toNatClampNeg = i := nI_clamp (by omega)
      have hb := hF i z
      rw [hcl]
      have keep : (a10 i = 0 → 1000000 ≤ F i) → wX_nearestOpenBack_4 post f0 h0 a1 a2 a3 a4 a5 a6 a7 a8 a9 a10 a11 a12 a13 a14 a15 a16 a17 a18 a19 a20 a21 a22 n x (nI (i + 1)) := by
        intro c
        refine ih (i + 1) x (by omega) (by omega) ?_
        rcases hI with ⟨e, h⟩ | h
        · refine Or.inl ⟨e, fun p hp hq => ?_⟩
          by_cases e' : p = i
          · rw [e'] at hq ⊢; exact c hq
          · exact h p (by omega) hq
        · exact Or.inr h
      refine br_c (fun c => ⟨pk_in i 12 z, ?_⟩) (fun c => nm_r (nI_1 i) (keep (fun c' => absurd c' c)))
      refine pk_le 1000000 (F i) (fun c2 => nm_r (nI_1 i) (keep (fun _ => c2))) (fun c2 => ?_) rfl (h9 i z) (by omega) (by omega)
      have new : wX_nearestOpenBack_4 post f0 h0 a1 a2 a3 a4 a5 a6 a7 a8 a9 a10 a11 a12 a13 a14 a15 a16 a17 a18 a19 a20 a21 a22 n (nI i) (nI (i + 1)) := ih (i + 1) (nI i) (by omega) (by omega) (Or.inr ⟨i, z, rfl, c, c2⟩)
      rcases hI with ⟨e, h⟩ | ⟨u, hu, e, h8, hf⟩
      · exact br_t (by rw [e]; decide) (nm_r (nI_1 i) new)
      · have old : wX_nearestOpenBack_4 post f0 h0 a1 a2 a3 a4 a5 a6 a7 a8 a9 a10 a11 a12 a13 a14 a15 a16 a17 a18 a19 a20 a21 a22 n x (nI (i + 1)) := ih (i + 1) x (by omega) (by omega) (Or.inr ⟨u, hu, e, h8, hf⟩)
        refine br_f (by rw [e]; exact nI_pos (by omega)) ⟨pk_in i 12 z, pk_in u 12 hu e, ?_⟩
        exact br_c (fun _ => nm_r (nI_1 i) old) (fun _ => nm_r (nI_1 i) new)
theorem rs_nearestOpenBack {post : Int32 → Prop} {F : Nat → Nat} (h9 : ∀ p, p < 12 → a9 p = nI (F p)) (hF : ∀ p, p < 12 → F p ≤ 1000000)
    (H0 : (∀ p, p < 12 → a10 p = 0 → 1000000 ≤ F p) → post (-1)) (H1 : ∀ u, u < 12 → a10 u = 0 → F u < 1000000 → post (nI u)) :
    wpX_nearestOpenBack post (f0, h0, a1, a2, a3, a4, a5, a6, a7, a8, a9, a10, a11, a12, a13, a14, a15, a16, a17, a18, a19, a20, a21, a22) := by
  unfold wpX_nearestOpenBack
  exact ⟨13, rs_nb4 h9 hF H0 H1 13 0 (-1) (by omega) (by omega) (Or.inl ⟨rfl, fun p hp => absurd hp (by omega)⟩)⟩
/-! the nearest point that a search has not settled -/
theorem rs_Qof {E : Nat → Nat} {s : Nat} {x y : Nat → Int32} {post : Int32 → Prop} (hs : s < 12) (hE : ∀ p, p < 12 → E p ≤ 1000000) (hI : rs_I E s x y) (H : ∀ r, rs_Q E s r x y → post r) :
    ∃ F : Nat → Nat, (∀ p, p < 12 → x p = nI (F p)) ∧ (∀ p, p < 12 → F p ≤ 1000000) ∧ ((∀ p, p < 12 → y p = 0 → 1000000 ≤ F p) → post (-1)) ∧ (∀ u, u < 12 → y u = 0 → F u < 1000000 → post (nI u)) := by
  have hI' := hI
  rcases hI with ⟨i1, i2⟩ | ⟨i1, i2⟩
  · refine ⟨rs_e s, i2, fun p _ => rs_ele s p, fun h => ?_, fun u hu hy hf => ?_⟩
    · have := h s hs i1
      rw [rs_e0] at this
      exact absurd this (by omega)
    · have e : u = s := by
        by_cases e : u = s
        · exact e
        · rw [rs_eN e] at hf; exact absurd hf (by omega)
      exact H _ (Or.inr ⟨u, rfl, ⟨hu, hy, Or.inl ⟨i1, e⟩⟩, hI'⟩)
  · refine ⟨E, i2, hE, fun h => ?_, fun u hu hy hf => ?_⟩
    · exact H _ (Or.inl ⟨rfl, i1, i2, h⟩)
    · exact H _ (Or.inr ⟨u, rfl, ⟨hu, hy, Or.inr ⟨i1, hf⟩⟩, hI'⟩)
theorem rs_openF {post : Int32 → Prop} {E : Nat → Nat} {s : Nat} (hs : s < 12) (hE : ∀ p, p < 12 → E p ≤ 1000000) (hI : rs_I E s a7 a8) (H : ∀ r, rs_Q E s r a7 a8 → post r) : wpX_nearestOpen post (f0, h0, a1, a2, a3, a4, a5, a6, a7, a8, a9, a10, a11, a12, a13, a14, a15, a16, a17, a18, a19, a20, a21, a22) := by
  obtain ⟨F, h1, h2, h3, h4⟩ := rs_Qof hs hE hI H
  exact rs_nearestOpen h1 h2 h3 h4
theorem rs_openB {post : Int32 → Prop} {E : Nat → Nat} {s : Nat} (hs : s < 12) (hE : ∀ p, p < 12 → E p ≤ 1000000) (hI : rs_I E s a9 a10) (H : ∀ r, rs_Q E s r a9 a10 → post r) : wpX_nearestOpenBack post (f0, h0, a1, a2, a3, a4, a5, a6, a7, a8, a9, a10, a11, a12, a13, a14, a15, a16, a17, a18, a19, a20, a21, a22) := by
  obtain ⟨F, h1, h2, h3, h4⟩ := rs_Qof hs hE hI H
  exact rs_nearestOpenBack h1 h2 h3 h4
/-! settleForwards -/
theorem rs_sf9 {post : St2 → Prop} {u : Nat} {F G R : Nat → Nat} (hu : u < 12) (hFb : ∀ p, p < 12 → F p ≤ 1000000) (h4 : ∀ i, i < 144 → a4 i = nI (R i)) (hR : ∀ i, R i ≤ 1000000) (hG : ∀ p, p < 12 → min (F p) (F u + R (u * 12 + p)) = G p)
    (H : ∀ b7 : Nat → Int32, (∀ p, p < 12 → b7 p = nI (G p)) → post (f0, h0, a1, a2, a3, a4, a5, a6, b7, a8, a9, a10, a11, a12, a13, a14, a15, a16, a17, a18, a19, a20, a21, a22)) :
    ∀ (n i : Nat) (b7 : Nat → Int32), i ≤ 12 → 12 - i < n → (∀ j, j < i → b7 j = nI (G j)) → (∀ j, i ≤ j → j < 12 → b7 j = nI (F j)) → wX_settleForwards_9 post (nI u) f0 h0 n (nI i) a1 a2 a3 a4 a5 a6 b7 a8 a9 a10 a11 a12 a13 a14 a15 a16 a17 a18 a19 a20 a21 a22 := by
  intro n
  induction n with
  | zero => intro i b7 hi hn; exact absurd hn (by omega)
  | succ n ih =>
    intro i b7 hi hn h1 h2
    refine pk_le 12 i (fun z => H b7 (fun p hp => h1 p (by omega))) (fun z => ?_)
    have hbu : b7 u = nI (F u) := by
      rcases Nat.lt_or_ge u i with c | c
      · rw [h1 u c, ← hG u hu, Nat.min_eq_left (by omega)]
      · exact h2 u c hu
    have hcl : (nI i).toNatClampNeg = i := nI_clamp (by omega)
    have hbi : b7 i = nI (F i) := h2 i (Nat.le_refl i) z
    have b1 := hFb i z
    have b2 := hFb u hu
    have b3 := hR (u * 12 + i)
    have go : ∀ x, x = nI (G i) → wX_settleForwards_9 post (nI u) f0 h0 n (nI (i + 1)) a1 a2 a3 a4 a5 a6 (upd b7 i x) a8 a9 a10 a11 a12 a13 a14 a15 a16 a17 a18 a19 a20 a21 a22 :=
      fun x ex => ih (i + 1) _ (by omega) (by omega) (rs_fill (P := fun p x => x = nI (G p)) h1 ex) (fun j c d => by rw [pk_un (by omega)]; exact h2 j (by omega) d)
    refine ⟨pk_in u 12 hu, pk_in (u * 12 + i) 144 (by omega) (rs_ix u i), nm_r (e' := nI (F u + R (u * 12 + i))) (by rw [rs_rd rfl (by omega) hbu, rs_rd (rs_ix u i) (by omega) (h4 _ (by omega)), nI_add]) ?_⟩
    rw [hcl, hbi]
    refine ⟨pk_in i 12 z, ?_⟩
    refine pk_le (F i) (F u + R (u * 12 + i)) (fun c => ?_) (fun c => ?_)
    · exact ⟨pk_in i 12 z, pk_in i 12 z, nm_e (nm_r (nI_1 i) (go _ (by rw [← hG i z, Nat.min_eq_left c])))⟩
    · exact ⟨pk_in i 12 z, nm_e (nm_r (nI_1 i) (go _ (by rw [← hG i z, Nat.min_eq_right (by omega)])))⟩
theorem rs_settleF {post : St2 → Prop} {u : Nat} {F G R : Nat → Nat} (hu : u < 12) (h7 : ∀ p, p < 12 → a7 p = nI (F p)) (hFb : ∀ p, p < 12 → F p ≤ 1000000) (h4 : ∀ i, i < 144 → a4 i = nI (R i)) (hR : ∀ i, R i ≤ 1000000) (hG : ∀ p, p < 12 → min (F p) (F u + R (u * 12 + p)) = G p)
    (H : ∀ b7 : Nat → Int32, (∀ p, p < 12 → b7 p = nI (G p)) → post (f0, h0, a1, a2, a3, a4, a5, a6, b7, upd a8 u 1, a9, a10, a11, a12, a13, a14, a15, a16, a17, a18, a19, a20, a21, a22)) : wpX_settleForwards post (f0, h0, a1, a2, a3, a4, a5, a6, a7, a8, a9, a10, a11, a12, a13, a14, a15, a16, a17, a18, a19, a20, a21, a22) (nI u) := by
  unfold wpX_settleForwards
  dsimp only
  rw [nI_clamp (show u < 2 ^ 31 by omega)]
  exact ⟨pk_in u 12 hu, nm_e ⟨13, rs_sf9 hu hFb h4 hR hG H 13 0 a7 (by omega) (by omega) (fun j hj => absurd hj (by omega)) (fun j _ hj => h7 j hj)⟩⟩
theorem rs_stepF {post : St2 → Prop} {E R : Nat → Nat} {s u : Nat} (h4 : ∀ i, i < 144 → a4 i = nI (R i)) (hR : ∀ i, R i ≤ 1000000) (hT : rs_T (fun u p => R (u * 12 + p)) s E) (hO : rs_O E s a8 u) (hI : rs_I E s a7 a8)
    (H : ∀ b7 : Nat → Int32, rs_I E s b7 (upd a8 u 1) → post (f0, h0, a1, a2, a3, a4, a5, a6, b7, upd a8 u 1, a9, a10, a11, a12, a13, a14, a15, a16, a17, a18, a19, a20, a21, a22)) : wpX_settleForwards post (f0, h0, a1, a2, a3, a4, a5, a6, a7, a8, a9, a10, a11, a12, a13, a14, a15, a16, a17, a18, a19, a20, a21, a22) (nI u) := by
  obtain ⟨F, f1, f2, f3, f4, _⟩ := rs_phase hT hO hI
  exact rs_settleF hO.1 f1 f2 h4 hR f3 (fun b7 hb => H b7 (f4 b7 hb))
/-! settleBackwards -/
theorem rs_sb9 {post : St2 → Prop} {u : Nat} {F G R : Nat → Nat} (hu : u < 12) (hFb : ∀ p, p < 12 → F p ≤ 1000000) (h4 : ∀ i, i < 144 → a4 i = nI (R i)) (hR : ∀ i, R i ≤ 1000000) (hG : ∀ p, p < 12 → min (F p) (F u + R (p * 12 + u)) = G p)
    (H : ∀ b9 : Nat → Int32, (∀ p, p < 12 → b9 p = nI (G p)) → post (f0, h0, a1, a2, a3, a4, a5, a6, a7, a8, b9, a10, a11, a12, a13, a14, a15, a16, a17, a18, a19, a20, a21, a22)) :
    ∀ (n i : Nat) (b9 : Nat → Int32), i ≤ 12 → 12 - i < n → (∀ j, j < i → b9 j = nI (G j)) → (∀ j, i ≤ j → j < 12 → b9 j = nI (F j)) → wX_settleBackwards_9 post (nI u) f0 h0 n (nI i) a1 a2 a3 a4 a5 a6 a7 a8 b9 a10 a11 a12 a13 a14 a15 a16 a17 a18 a19 a20 a21 a22 := by
  intro n
  induction n with
  | zero => intro i b9 hi hn; exact absurd hn (by omega)
  | succ n ih =>
    intro i b9 hi hn h1 h2
    refine pk_le 12 i (fun z => H b9 (fun p hp => h1 p (by omega))) (fun z => ?_)
    have hbu : b9 u = nI (F u) := by
      rcases Nat.lt_or_ge u i with c | c
      · rw [h1 u c, ← hG u hu, Nat.min_eq_left (by omega)]
      · exact h2 u c hu
    have hcl : (nI i).toNatClampNeg = i := nI_clamp (by omega)
    have hbi : b9 i = nI (F i) := h2 i (Nat.le_refl i) z
    have b1 := hFb i z
    have b2 := hFb u hu
    have b3 := hR (i * 12 + u)
    have go : ∀ x, x = nI (G i) → wX_settleBackwards_9 post (nI u) f0 h0 n (nI (i + 1)) a1 a2 a3 a4 a5 a6 a7 a8 (upd b9 i x) a10 a11 a12 a13 a14 a15 a16 a17 a18 a19 a20 a21 a22 :=
      fun x ex => ih (i + 1) _ (by omega) (by omega) (rs_fill (P := fun p x => x = nI (G p)) h1 ex) (fun j c d => by rw [pk_un (by omega)]; exact h2 j (by omega) d)
    refine ⟨pk_in u 12 hu, pk_in (i * 12 + u) 144 (by omega) (rs_ix i u), nm_r (e' := nI (F u + R (i * 12 + u))) (by rw [rs_rd rfl (by omega) hbu, rs_rd (rs_ix i u) (by omega) (h4 _ (by omega)), nI_add]) ?_⟩
    rw [hcl, hbi]
    refine ⟨pk_in i 12 z, ?_⟩
    refine pk_le (F i) (F u + R (i * 12 + u)) (fun c => ?_) (fun c => ?_)
    · exact ⟨pk_in i 12 z, pk_in i 12 z, nm_e (nm_r (nI_1 i) (go _ (by rw [← hG i z, Nat.min_eq_left c])))⟩
    · exact ⟨pk_in i 12 z, nm_e (nm_r (nI_1 i) (go _ (by rw [← hG i z, Nat.min_eq_right (by omega)])))⟩
theorem rs_settleB {post : St2 → Prop} {u : Nat} {F G R : Nat → Nat} (hu : u < 12) (h9 : ∀ p, p < 12 → a9 p = nI (F p)) (hFb : ∀ p, p < 12 → F p ≤ 1000000) (h4 : ∀ i, i < 144 → a4 i = nI (R i)) (hR : ∀ i, R i ≤ 1000000) (hG : ∀ p, p < 12 → min (F p) (F u + R (p * 12 + u)) = G p)
    (H : ∀ b9 : Nat → Int32, (∀ p, p < 12 → b9 p = nI (G p)) → post (f0, h0, a1, a2, a3, a4, a5, a6, a7, a8, b9, upd a10 u 1, a11, a12, a13, a14, a15, a16, a17, a18, a19, a20, a21, a22)) : wpX_settleBackwards post (f0, h0, a1, a2, a3, a4, a5, a6, a7, a8, a9, a10, a11, a12, a13, a14, a15, a16, a17, a18, a19, a20, a21, a22) (nI u) := by
  unfold wpX_settleBackwards
  dsimp only
  rw [nI_clamp (show u < 2 ^ 31 by omega)]
  exact ⟨pk_in u 12 hu, nm_e ⟨13, rs_sb9 hu hFb h4 hR hG H 13 0 a9 (by omega) (by omega) (fun j hj => absurd hj (by omega)) (fun j _ hj => h9 j hj)⟩⟩
theorem rs_stepB {post : St2 → Prop} {E R : Nat → Nat} {s u : Nat} (h4 : ∀ i, i < 144 → a4 i = nI (R i)) (hR : ∀ i, R i ≤ 1000000) (hT : rs_T (fun u p => R (p * 12 + u)) s E) (hO : rs_O E s a10 u) (hI : rs_I E s a9 a10)
    (H : ∀ b9 : Nat → Int32, rs_I E s b9 (upd a10 u 1) → post (f0, h0, a1, a2, a3, a4, a5, a6, a7, a8, b9, upd a10 u 1, a11, a12, a13, a14, a15, a16, a17, a18, a19, a20, a21, a22)) : wpX_settleBackwards post (f0, h0, a1, a2, a3, a4, a5, a6, a7, a8, a9, a10, a11, a12, a13, a14, a15, a16, a17, a18, a19, a20, a21, a22) (nI u) := by
  obtain ⟨F, f1, f2, f3, f4, _⟩ := rs_phase hT hO hI
  exact rs_settleB hO.1 f1 f2 h4 hR f3 (fun b9 hb => H b9 (f4 b9 hb))
/-! shortestMeeting -/
theorem rs_sm5 {post : Int32 → Prop} {F G : Nat → Nat} (h7 : ∀ p, p < 12 → a7 p = nI (F p)) (h9 : ∀ p, p < 12 → a9 p = nI (G p)) (hF : ∀ p, p < 12 → F p ≤ 1000000) (hG : ∀ p, p < 12 → G p ≤ 1000000)
    (H : ∀ M, M ≤ 1000000 → (∀ p, p < 12 → M ≤ F p + G p) → (M = 1000000 ∨ ∃ p, p < 12 ∧ M = F p + G p) → post (nI M)) :
    ∀ n i M : Nat, i ≤ 12 → 12 - i < n → M ≤ 1000000 → (∀ p, p < i → M ≤ F p + G p) → (M = 1000000 ∨ ∃ p, p < 12 ∧ M = F p + G p) → wX_shortestMeeting_5 post f0 h0 a1 a2 a3 a4 a5 a6 a7 a8 a9 a10 a11 a12 a13 a14 a15 a16 a17 a18 a19 a20 a21 a22 n (nI M) (nI i) := by
  intro n
  induction n with
  | zero => intro i M hi hn; exact absurd hn (by omega)
  | succ n ih =>
    intro i M hi hn m1 m2 m3
    refine pk_le 12 i (fun z => H M m1 (fun p hp => m2 p (by omega)) m3) (fun z => ?_)
    have b1 := hF i z
    have b2 := hG i z
    refine ⟨pk_in i 12 z, pk_in i 12 z, nm_r (e' := nI (F i + G i)) (by rw [rs_rd rfl (by omega) (h7 i z), rs_rd rfl (by omega) (h9 i z), nI_add]) ?_⟩
    refine pk_le M (F i + G i) (fun c => nm_r (nI_1 i) (ih (i + 1) M (by omega) (by omega) m1 (fun p hp => ?_) m3)) (fun c => nm_r (nI_1 i) (ih (i + 1) (F i + G i) (by omega) (by omega) (by omega) (fun p hp => ?_) (Or.inr ⟨i, z, rfl⟩)))
    · by_cases e : p = i
      · rw [e]; exact c
      · exact m2 p (by omega)
    · by_cases e : p = i
      · rw [e]; exact Nat.le_refl _
      · have := m2 p (by omega)
        omega
theorem rs_meet {post : Int32 → Prop} {F G : Nat → Nat} (h7 : ∀ p, p < 12 → a7 p = nI (F p)) (h9 : ∀ p, p < 12 → a9 p = nI (G p)) (hF : ∀ p, p < 12 → F p ≤ 1000000) (hG : ∀ p, p < 12 → G p ≤ 1000000)
    (H : ∀ M, M ≤ 1000000 → (∀ p, p < 12 → M ≤ F p + G p) → (M = 1000000 ∨ ∃ p, p < 12 ∧ M = F p + G p) → post (nI M)) : wpX_shortestMeeting post (f0, h0, a1, a2, a3, a4, a5, a6, a7, a8, a9, a10, a11, a12, a13, a14, a15, a16, a17, a18, a19, a20, a21, a22) := by
  unfold wpX_shortestMeeting
  exact ⟨13, rs_sm5 h7 h9 hF hG H 13 0 1000000 (by omega) (by omega) (by omega) (fun p hp => absurd hp (by omega)) (Or.inl rfl)⟩
end
end
section
def rs_N (g A B l : Nat) (f : Int32) (x y v : Nat → Int32) : Prop := rs_ok g A B l ∧ f = nI g ∧ (∀ k, k < 28 → ∃ c, c < 12 ∧ x k = nI c) ∧ (∀ k, k < 28 → ∃ c, c < 12 ∧ y k = nI c) ∧ (g = 1 → x 0 = nI A ∧ y 0 = nI B ∧ v 0 = nI l)
theorem rs_bit0 : ∀ g, g < 2 → ∀ k, k < 28 → ¬ (g = 1 ∧ k = 0) → ((nI g >>> (nI k &&& 31)) &&& 1) = 0 := by decide +kernel
theorem rs_us (f : Nat → Int32) (k : Nat) : upd f k (f k) = f := by
  funext j
  by_cases e : j = k
  · rw [e, pk_us]
  · rw [pk_un e]
section
variable {f0 h0 : Int32} {a1 a2 a3 a4 a5 a6 a7 a8 a9 a10 a11 a12 a13 a14 a15 a16 a17 a18 a19 a20 a21 a22 : Nat → Int32}
variable {g A B l : Nat}
theorem rs_has {post : Int32 → Prop} {k : Nat} (hg : g ≤ 1) (hf : f0 = nI g) (hk : k < 28) (H1 : g = 1 → k = 0 → post 1) (H0 : ¬ (g = 1 ∧ k = 0) → post 0) : wpX_has post (f0, h0, a1, a2, a3, a4, a5, a6, a7, a8, a9, a10, a11, a12, a13, a14, a15, a16, a17, a18, a19, a20, a21, a22) (nI k) := by
  unfold wpX_has
  dsimp only
  refine br_f (nI_pos (by omega)) (br_f (nI_ge (b := 28) hk (by decide)) ?_)
  by_cases c : g = 1 ∧ k = 0
  · exact br_f (by rw [hf, c.1, c.2]; decide) (H1 c.1 c.2)
  · exact br_t (by rw [hf]; exact rs_bit0 g (by omega) k hk c) (H0 c)
theorem rs_lr25 {post : St2 → Prop} (hN : rs_N g A B l f0 a1 a2 a3) (H : ∀ b4 : Nat → Int32, (∀ i, i < 144 → b4 i = nI (rs_R g A B l i)) → post (f0, h0, a1, a2, a3, b4, a5, a6, a7, a8, a9, a10, a11, a12, a13, a14, a15, a16, a17, a18, a19, a20, a21, a22)) :
    ∀ (n k : Nat) (b4 : Nat → Int32), k ≤ 28 → 28 - k < n → (∀ i, i < 144 → b4 i = nI (if k = 0 then 1000000 else rs_R g A B l i)) → wX_layRoads_25 post f0 h0 n (nI k) a1 a2 a3 b4 a5 a6 a7 a8 a9 a10 a11 a12 a13 a14 a15 a16 a17 a18 a19 a20 a21 a22 := by
  obtain ⟨⟨kg, kA, kB, kAB, kl, kl2⟩, hf, h1, h2, h3⟩ := hN
  intro n
  induction n with
  | zero => intro k b4 hk hn; exact absurd hn (by omega)
  | succ n ih =>
    intro k b4 hk hn h
    refine pk_le 28 k (fun z => H b4 (fun i hi => by rw [h i hi, if_neg (by omega)])) (fun z => ?_)
    obtain ⟨x, hx, ex⟩ := h1 k z
    obtain ⟨y, hy, ey⟩ := h2 k z
    have hcl : (nI (x * 12 + y)).toNatClampNeg = x * 12 + y := nI_clamp (by omega)
    refine ⟨pk_in k 28 z, pk_in k 28 z, nm_r (e' := nI (x * 12 + y)) (by rw [rs_rd rfl (by omega) ex, rs_rd rfl (by omega) ey, rs_ix]) ?_⟩
    refine rs_has kg hf z (fun e1 e2 => br_f (by decide) ?_) (fun e => br_t rfl ?_)
    · obtain ⟨q1, q2, q3⟩ := h3 e1
      have ek : (nI k).toNatClampNeg = 0 := by rw [e2]; decide
      have eA : x = A := (nI_eq (by omega) (by omega)).mp (by rw [← ex, e2]; exact q1)
      have eB : y = B := (nI_eq (by omega) (by omega)).mp (by rw [← ey, e2]; exact q2)
      have ec := h (x * 12 + y) (by omega)
      rw [if_pos e2] at ec
      rw [hcl, ek, ec, q3]
      refine ⟨pk_in k 28 z, pk_in (x * 12 + y) 144 (by omega), pk_le 1000000 l (fun c => absurd c (by omega)) (fun _ => ?_)⟩
      refine ⟨pk_in k 28 z, pk_in (x * 12 + y) 144 (by omega), nm_e (nm_r (nI_1 k) (ih (k + 1) _ (by omega) (by omega) (fun i hi => ?_)))⟩
      rw [if_neg (by omega)]
      by_cases e : i = x * 12 + y
      · rw [e, pk_us]
        unfold rs_R
        rw [if_pos ⟨e1, by rw [eA, eB]⟩]
      · rw [pk_un e, h i hi, if_pos e2]
        unfold rs_R
        rw [if_neg (fun t => e (by rw [t.2, eA, eB]))]
    · rw [hcl, rs_us]
      refine ⟨pk_in (x * 12 + y) 144 (by omega), pk_in (x * 12 + y) 144 (by omega), nm_e (nm_r (nI_1 k) (ih (k + 1) _ (by omega) (by omega) (fun i hi => ?_)))⟩
      rw [h i hi, if_neg (show ¬ k + 1 = 0 by omega)]
      by_cases e0 : k = 0
      · rw [if_pos e0]
        unfold rs_R
        rw [if_neg (fun t => e ⟨t.1, e0⟩)]
      · rw [if_neg e0]
theorem rs_lr2 {post : St2 → Prop} (H : ∀ b4 : Nat → Int32, (∀ i, i < 144 → b4 i = nI 1000000) → ∃ n, wX_layRoads_25 post f0 h0 n 0 a1 a2 a3 b4 a5 a6 a7 a8 a9 a10 a11 a12 a13 a14 a15 a16 a17 a18 a19 a20 a21 a22) :
    ∀ (n i : Nat) (b4 : Nat → Int32), i ≤ 144 → 144 - i < n → (∀ j, j < i → b4 j = nI 1000000) → wX_layRoads_2 post f0 h0 n (nI i) a1 a2 a3 b4 a5 a6 a7 a8 a9 a10 a11 a12 a13 a14 a15 a16 a17 a18 a19 a20 a21 a22 := by
  intro n
  induction n with
  | zero => intro i b4 hi hn; exact absurd hn (by omega)
  | succ n ih =>
    intro i b4 hi hn h
    refine pk_le 144 i (fun z => H b4 (fun j hj => h j (by omega))) (fun z => ?_)
    rw [nI_clamp (show i < 2 ^ 31 by omega)]
    exact ⟨pk_in i 144 z, nm_e (nm_r (nI_1 i) (ih (i + 1) _ (by omega) (by omega) (rs_fill (P := fun p x => x = nI 1000000) h rfl)))⟩
theorem rs_layRoads {post : St2 → Prop} (hN : rs_N g A B l f0 a1 a2 a3) (H : ∀ b4 : Nat → Int32, (∀ i, i < 144 → b4 i = nI (rs_R g A B l i)) → post (f0, h0, a1, a2, a3, b4, a5, a6, a7, a8, a9, a10, a11, a12, a13, a14, a15, a16, a17, a18, a19, a20, a21, a22)) : wpX_layRoads post (f0, h0, a1, a2, a3, a4, a5, a6, a7, a8, a9, a10, a11, a12, a13, a14, a15, a16, a17, a18, a19, a20, a21, a22) := by
  unfold wpX_layRoads
  exact ⟨145, rs_lr2 (fun b4 hb => ⟨29, rs_lr25 hN H 29 0 b4 (by omega) (by omega) (fun i hi => by rw [if_pos rfl]; exact hb i hi)⟩) 145 0 a4 (by omega) (by omega) (fun j hj => absurd hj (by omega))⟩
end
end
section
def rs_C (g A B l j : Nat) (x : Int32) : Prop := ∃ c, x = nI c ∧ rs_D g A B l (j / 12) (j % 12) ≤ c ∧ c ≤ 1000000
theorem rs_cell {post : Int32 → Prop} {x : Int32} (h : post (x / 4)) : wpX_cellOf post () x := And.intro (by decide) h
section
variable {f0 h0 : Int32} {a1 a2 a3 a4 a5 a6 a7 a8 a9 a10 a11 a12 a13 a14 a15 a16 a17 a18 a19 a20 a21 a22 : Nat → Int32}
variable {g A B l : Nat}
/-! layCells -/
theorem rs_lc184 {post : St2 → Prop} {J : Int32 → (Nat → Int32) → (Nat → Int32) → (Nat → Int32) → (Nat → Int32) → (Nat → Int32) → (Nat → Int32) → (Nat → Int32) → (Nat → Int32) → (Nat → Int32) → (Nat → Int32) → (Nat → Int32) → (Nat → Int32) → (Nat → Int32) → (Nat → Int32) → (Nat → Int32) → (Nat → Int32) → (Nat → Int32) → (Nat → Int32) → (Nat → Int32) → (Nat → Int32) → (Nat → Int32) → (Nat → Int32) → Prop} {m : Nat} (k : rs_ok g A B l) (hm : m < 12)
    (H : ∀ b22 : Nat → Int32, (∀ j, j < 144 → rs_C g A B l j (b22 j)) → J (nI (m + 1)) a1 a2 a3 a4 a5 a6 a7 a8 a9 a10 a11 a12 a13 a14 a15 a16 a17 a18 a19 a20 a21 b22) :
    ∀ (n i : Nat) (b22 : Nat → Int32), i ≤ 144 → 144 - i < n → (∀ j, j < 144 → rs_C g A B l j (b22 j)) → wX_layCells_184 post J (nI m) f0 h0 n (nI i) a1 a2 a3 a4 a5 a6 a7 a8 a9 a10 a11 a12 a13 a14 a15 a16 a17 a18 a19 a20 a21 b22 := by
  intro n
  induction n with
  | zero => intro i b22 hi hn; exact absurd hn (by omega)
  | succ n ih =>
    intro i b22 hi hn h
    refine pk_le 144 i (fun z => nm_r (nI_1 m) (H b22 h)) (fun z => ?_)
    have e1 : nI i / 12 * 12 + nI m = nI (i / 12 * 12 + m) := by rw [rs_dv (by omega), rs_ix]
    have e2 : nI m * 12 + (nI i - nI i / 12 * 12) = nI (m * 12 + i % 12) := by rw [rs_md (by omega), rs_ix]
    obtain ⟨c1, x1, y1, v1⟩ := h (i / 12 * 12 + m) (by omega)
    obtain ⟨c2, x2, y2, v2⟩ := h (m * 12 + i % 12) (by omega)
    obtain ⟨c3, x3, y3, v3⟩ := h i z
    rw [show (i / 12 * 12 + m) / 12 = i / 12 by omega, show (i / 12 * 12 + m) % 12 = m by omega] at y1
    rw [show (m * 12 + i % 12) / 12 = m by omega, show (m * 12 + i % 12) % 12 = i % 12 by omega] at y2
    have tr := rs_tri k (i / 12) m (i % 12)
    refine ⟨by decide, pk_in (i / 12 * 12 + m) 144 (by omega) e1, by decide, pk_in (m * 12 + i % 12) 144 (by omega) e2, nm_r (e' := nI (c1 + c2)) (by rw [rs_rd e1 (by omega) x1, rs_rd e2 (by omega) x2, nI_add]) ?_⟩
    rw [nI_clamp (show i < 2 ^ 31 by omega), rs_us, x3]
    refine ⟨pk_in i 144 z, pk_le c3 (c1 + c2) (fun c => ?_) (fun c => ?_)⟩
    · exact ⟨pk_in i 144 z, pk_in i 144 z, nm_e (nm_r (nI_1 i) (ih (i + 1) _ (by omega) (by omega) h))⟩
    · exact ⟨pk_in i 144 z, nm_e (nm_r (nI_1 i) (ih (i + 1) _ (by omega) (by omega) (rs_put (P := fun p x => rs_C g A B l p x) (fun p hp _ => h p hp) (fun _ => ⟨c1 + c2, rfl, by omega, by omega⟩))))⟩
theorem rs_lc176 {post : St2 → Prop} (k : rs_ok g A B l) (H : ∀ b22 : Nat → Int32, (∀ j, j < 144 → rs_C g A B l j (b22 j)) → post (f0, h0, a1, a2, a3, a4, a5, a6, a7, a8, a9, a10, a11, a12, a13, a14, a15, a16, a17, a18, a19, a20, a21, b22)) :
    ∀ (n m : Nat) (b22 : Nat → Int32), m ≤ 12 → 12 - m < n → (∀ j, j < 144 → rs_C g A B l j (b22 j)) → wX_layCells_176 post f0 h0 n (nI m) a1 a2 a3 a4 a5 a6 a7 a8 a9 a10 a11 a12 a13 a14 a15 a16 a17 a18 a19 a20 a21 b22 := by
  intro n
  induction n with
  | zero => intro m b22 hi hn; exact absurd hn (by omega)
  | succ n ih =>
    intro m b22 hm hn h
    exact pk_le 12 m (fun z => H b22 h) (fun z => ⟨145, rs_lc184 k z (fun b hb => ih (m + 1) b (by omega) (by omega) hb) 145 0 b22 (by omega) (by omega) h⟩)
theorem rs_lc90 {post : St2 → Prop} (k : rs_ok g A B l) (h4 : ∀ i, i < 144 → a4 i = nI (rs_R g A B l i)) (H : ∀ b22 : Nat → Int32, (∀ j, j < 144 → rs_C g A B l j (b22 j)) → ∃ n, wX_layCells_176 post f0 h0 n 0 a1 a2 a3 a4 a5 a6 a7 a8 a9 a10 a11 a12 a13 a14 a15 a16 a17 a18 a19 a20 a21 b22) :
    ∀ (n i : Nat) (b22 : Nat → Int32), i ≤ 144 → 144 - i < n → (∀ j, j < i → rs_C g A B l j (b22 j)) → wX_layCells_90 post f0 h0 n (nI i) a1 a2 a3 a4 a5 a6 a7 a8 a9 a10 a11 a12 a13 a14 a15 a16 a17 a18 a19 a20 a21 b22 := by
  intro n
  induction n with
  | zero => intro i b22 hi hn; exact absurd hn (by omega)
  | succ n ih =>
    intro i b22 hi hn h
    refine pk_le 144 i (fun z => H b22 (fun j hj => h j (by omega))) (fun z => ?_)
    have hcl : (nI i).toNatClampNeg = i := nI_clamp (by omega)
    have go : ∀ b : Nat → Int32, (∀ j, j < i + 1 → rs_C g A B l j (b j)) → wX_layCells_90 post f0 h0 n (nI (i + 1)) a1 a2 a3 a4 a5 a6 a7 a8 a9 a10 a11 a12 a13 a14 a15 a16 a17 a18 a19 a20 a21 b := fun b hb => ih (i + 1) b (by omega) (by omega) hb
    have q140 : ∀ v, rs_C g A B l i v → wX_layCells_140 post (wX_layCells_90 post f0 h0 n) (nI i) v (nI i) f0 h0 a1 a2 a3 a4 a5 a6 a7 a8 a9 a10 a11 a12 a13 a14 a15 a16 a17 a18 a19 a20 a21 b22 := by
      intro v hv
      unfold wX_layCells_140
      rw [hcl]
      refine ⟨pk_in i 144 z, nm_e ⟨by decide, by decide, ?_⟩⟩
      rw [rs_us]
      refine pk_eq (i / 12) (i % 12) (fun c => ?_) (fun c => ?_) (rs_dv (by omega)) (rs_md (by omega))
      · refine ⟨pk_in i 144 z, nm_e (nm_r (nI_1 i) (go _ (fun j hj => ?_)))⟩
        by_cases e : j = i
        · rw [e, pk_us]
          exact ⟨0, rfl, by rw [c, rs_Ds]; exact Nat.le_refl 0, by omega⟩
        · rw [pk_un e, pk_un e]
          exact h j (by omega)
      · exact ⟨pk_in i 144 z, pk_in i 144 z, nm_e (nm_r (nI_1 i) (go _ (rs_fill (P := fun p x => rs_C g A B l p x) h hv)))⟩
    have q119 : ∀ v : Int32, wX_layCells_119 post (wX_layCells_90 post f0 h0 n) (nI i) v f0 h0 a1 a2 a3 a4 a5 a6 a7 a8 a9 a10 a11 a12 a13 a14 a15 a16 a17 a18 a19 a20 a21 b22 := by
      intro v
      unfold wX_layCells_119
      rw [hcl]
      refine br_c (fun _ => q140 1000000 ⟨1000000, rfl, rs_Dle k _ _, Nat.le_refl _⟩) (fun _ => ⟨pk_in i 144 z, q140 (a4 i) ⟨rs_R g A B l i, h4 i z, ?_, rs_Rle k i⟩⟩)
      have := rs_RD k (u := i / 12) (p := i % 12) (by omega)
      rw [show i / 12 * 12 + i % 12 = i by omega] at this
      exact this
    exact ⟨by decide, rs_cell ⟨by decide, rs_cell (br_c (fun _ => q119 1) (fun _ => q119 0))⟩⟩
theorem rs_lc23 {post : St2 → Prop} (hN : rs_N g A B l f0 a1 a2 a3) (H : ∀ b21 : Nat → Int32, ∃ n, wX_layCells_90 post f0 h0 n 0 a1 a2 a3 a4 a5 a6 a7 a8 a9 a10 a11 a12 a13 a14 a15 a16 a17 a18 a19 a20 b21 a22) :
    ∀ (n k : Nat) (b21 : Nat → Int32), k ≤ 28 → 28 - k < n → wX_layCells_23 post f0 h0 n (nI k) a1 a2 a3 a4 a5 a6 a7 a8 a9 a10 a11 a12 a13 a14 a15 a16 a17 a18 a19 a20 b21 a22 := by
  obtain ⟨⟨kg, kA, kB, kAB, kl, kl2⟩, hf, h1, h2, h3⟩ := hN
  intro n
  induction n with
  | zero => intro k b21 hk hn; exact absurd hn (by omega)
  | succ n ih =>
    intro k b21 hk hn
    refine pk_le 28 k (fun z => H b21) (fun z => ?_)
    refine rs_has kg hf z (fun e1 e2 => br_f (by decide) ?_) (fun e => br_t rfl (nm_r (nI_1 k) (ih (k + 1) b21 (by omega) (by omega))))
    obtain ⟨q1, q2, q3⟩ := h3 e1
    have ek : (nI k).toNatClampNeg = 0 := by rw [e2]; decide
    rw [ek, q1, q2]
    refine ⟨pk_in k 28 z, rs_cell ⟨pk_in k 28 z, rs_cell (br_c (fun _ => nm_r (nI_1 k) (ih (k + 1) b21 (by omega) (by omega))) (fun _ => ?_))⟩⟩
    exact ⟨pk_in k 28 z, pk_in A 12 kA, nm_e ⟨pk_in k 28 z, pk_in B 12 kB, nm_e (nm_r (nI_1 k) (ih (k + 1) _ (by omega) (by omega)))⟩⟩
theorem rs_lc2 {post : St2 → Prop} (H : ∀ b21 : Nat → Int32, ∃ n, wX_layCells_23 post f0 h0 n 0 a1 a2 a3 a4 a5 a6 a7 a8 a9 a10 a11 a12 a13 a14 a15 a16 a17 a18 a19 a20 b21 a22) :
    ∀ (n i : Nat) (b21 : Nat → Int32), i ≤ 12 → 12 - i < n → wX_layCells_2 post f0 h0 n (nI i) a1 a2 a3 a4 a5 a6 a7 a8 a9 a10 a11 a12 a13 a14 a15 a16 a17 a18 a19 a20 b21 a22 := by
  intro n
  induction n with
  | zero => intro i b21 hi hn; exact absurd hn (by omega)
  | succ n ih =>
    intro i b21 hi hn
    exact pk_le 12 i (fun z => H b21) (fun z => ⟨pk_in i 12 z, nm_e (nm_r (nI_1 i) (ih (i + 1) _ (by omega) (by omega)))⟩)
theorem rs_layCells {post : St2 → Prop} (hN : rs_N g A B l f0 a1 a2 a3) (h4 : ∀ i, i < 144 → a4 i = nI (rs_R g A B l i)) (H : ∀ b21 b22 : Nat → Int32, (∀ j, j < 144 → rs_C g A B l j (b22 j)) → post (f0, h0, a1, a2, a3, a4, a5, a6, a7, a8, a9, a10, a11, a12, a13, a14, a15, a16, a17, a18, a19, a20, b21, b22)) : wpX_layCells post (f0, h0, a1, a2, a3, a4, a5, a6, a7, a8, a9, a10, a11, a12, a13, a14, a15, a16, a17, a18, a19, a20, a21, a22) := by
  unfold wpX_layCells
  refine ⟨13, rs_lc2 (fun b21 => ⟨29, rs_lc23 hN (fun b21' => ⟨145, ?_⟩) 29 0 b21 (by omega) (by omega)⟩) 13 0 a21 (by omega) (by omega)⟩
  exact rs_lc90 hN.1 h4 (fun b22 hb => ⟨13, rs_lc176 hN.1 (fun b hb' => H b21' b hb') 13 0 b22 (by omega) (by omega) hb⟩) 145 0 a22 (by omega) (by omega) (fun j hj => absurd hj (by omega))
/-! stepOver, distanceOverCells -/
theorem rs_stepOver {post : Int32 → Prop} {u v s t : Nat} (k : rs_ok g A B l) (h4 : ∀ i, i < 144 → a4 i = nI (rs_R g A B l i)) (hC : ∀ j, j < 144 → rs_C g A B l j (a22 j)) (hu : u < 12) (hv : v < 12)
    (H : ∀ w, rs_D g A B l u v ≤ w → w ≤ 1000000 → (u = s → w = rs_R g A B l (u * 12 + v)) → post (nI w)) : wpX_stepOver post (f0, h0, a1, a2, a3, a4, a5, a6, a7, a8, a9, a10, a11, a12, a13, a14, a15, a16, a17, a18, a19, a20, a21, a22) (nI u) (nI v) (nI s) (nI t) := by
  unfold wpX_stepOver
  dsimp only
  have w34 : wX_stepOver_34 post (nI u) (nI v) f0 h0 a1 a2 a3 a4 a5 a6 a7 a8 a9 a10 a11 a12 a13 a14 a15 a16 a17 a18 a19 a20 a21 a22 := by
    refine And.intro (pk_in (u * 12 + v) 144 (by omega) (rs_ix u v)) ?_
    rw [rs_rd (rs_ix u v) (by omega) (h4 _ (by omega))]
    exact H _ (rs_RD k hv) (rs_Rle k _) (fun _ => rfl)
  refine rs_cell (rs_cell (br_c (fun _ => rs_cell (br_c (fun _ => w34) (fun c2 => rs_cell (br_c (fun _ => w34) (fun _ => ?_))))) (fun _ => w34)))
  have hus : u ≠ s := fun e => c2 (by rw [e])
  have pf : post 1000000 := H 1000000 (rs_Dle k _ _) (Nat.le_refl _) (fun e => absurd e hus)
  refine ⟨pk_in u 12 hu, br_c (fun _ => pf) (fun _ => ⟨pk_in v 12 hv, br_c (fun _ => pf) (fun _ => ⟨pk_in (u * 12 + v) 144 (by omega) (rs_ix u v), ?_⟩)⟩)⟩
  obtain ⟨c, x, y, v'⟩ := hC (u * 12 + v) (by omega)
  rw [show (u * 12 + v) / 12 = u by omega, show (u * 12 + v) % 12 = v by omega] at y
  rw [rs_rd (rs_ix u v) (by omega) x]
  exact H c y v' (fun e => absurd e hus)
theorem rs_phaseC {s u : Nat} {x y : Nat → Int32} (k : rs_ok g A B l) (hO : rs_O (fun p => rs_D g A B l s p) s y u) (hI : rs_I (fun p => rs_D g A B l s p) s x y) :
    ∃ F : Nat → Nat, (∀ p, p < 12 → x p = nI (F p)) ∧ (∀ p, p < 12 → F p ≤ 1000000) ∧ (∀ p, p < 12 → ∀ w, rs_D g A B l u p ≤ w → (u = s → w = rs_R g A B l (u * 12 + p)) → min (F p) (F u + w) = rs_D g A B l s p) ∧ (∀ x', (∀ p, p < 12 → x' p = nI (rs_D g A B l s p)) → rs_I (fun p => rs_D g A B l s p) s x' (upd y u 1)) := by
  obtain ⟨F, f1, f2, f3, f4, f5⟩ := rs_phase (rs_TF k s) hO hI
  by_cases e : u = s
  · refine ⟨F, f1, f2, fun p hp w w1 w2 => ?_, f4⟩
    rw [w2 e]
    exact f3 p hp
  · obtain ⟨hu, hy, hc⟩ := hO
    rcases hc with ⟨_, c2⟩ | ⟨c1, c2⟩
    · exact absurd c2 e
    · rcases hI with ⟨i1, i2⟩ | ⟨i1, i2⟩
      · exact absurd i1 c1
      · refine ⟨fun p => rs_D g A B l s p, i2, fun p _ => rs_Dle k s p, fun p hp w w1 w2 => ?_, f4⟩
        have := rs_tri k s u p
        exact Nat.min_eq_left (show rs_D g A B l s p ≤ rs_D g A B l s u + w by omega)
theorem rs_oc25 {post : Int32 → St2 → Prop} {J : Int32 → (Nat → Int32) → (Nat → Int32) → (Nat → Int32) → (Nat → Int32) → (Nat → Int32) → (Nat → Int32) → (Nat → Int32) → (Nat → Int32) → (Nat → Int32) → (Nat → Int32) → (Nat → Int32) → (Nat → Int32) → (Nat → Int32) → (Nat → Int32) → (Nat → Int32) → (Nat → Int32) → (Nat → Int32) → (Nat → Int32) → (Nat → Int32) → (Nat → Int32) → (Nat → Int32) → (Nat → Int32) → Prop} {s t u : Nat} {F G : Nat → Nat} (k : rs_ok g A B l) (h4 : ∀ i, i < 144 → a4 i = nI (rs_R g A B l i)) (hC : ∀ j, j < 144 → rs_C g A B l j (a22 j)) (hu : u < 12)
    (hF : ∀ p, p < 12 → F p ≤ 1000000) (hG : ∀ p, p < 12 → ∀ w, rs_D g A B l u p ≤ w → (u = s → w = rs_R g A B l (u * 12 + p)) → min (F p) (F u + w) = G p)
    (H : ∀ b7 : Nat → Int32, (∀ p, p < 12 → b7 p = nI (G p)) → wpX_nearestOpen (fun r => J r a1 a2 a3 a4 a5 a6 b7 a8 a9 a10 a11 a12 a13 a14 a15 a16 a17 a18 a19 a20 a21 a22) (f0, h0, a1, a2, a3, a4, a5, a6, b7, a8, a9, a10, a11, a12, a13, a14, a15, a16, a17, a18, a19, a20, a21, a22)) :
    ∀ (n i : Nat) (b7 : Nat → Int32), i ≤ 12 → 12 - i < n → (∀ j, j < i → b7 j = nI (G j)) → (∀ j, i ≤ j → j < 12 → b7 j = nI (F j)) → wX_distanceOverCells_25 post J (nI s) (nI t) (nI u) f0 h0 n (nI i) a1 a2 a3 a4 a5 a6 b7 a8 a9 a10 a11 a12 a13 a14 a15 a16 a17 a18 a19 a20 a21 a22 := by
  intro n
  induction n with
  | zero => intro i b7 hi hn; exact absurd hn (by omega)
  | succ n ih =>
    intro i b7 hi hn h1 h2
    refine pk_le 12 i (fun z => H b7 (fun p hp => h1 p (by omega))) (fun z => ?_)
    have hbu : b7 u = nI (F u) := by
      rcases Nat.lt_or_ge u i with c | c
      · rw [h1 u c, ← hG u hu (rs_R g A B l (u * 12 + u)) (rs_RD k hu) (fun _ => rfl), Nat.min_eq_left (by omega)]
      · exact h2 u c hu
    have hcl : (nI i).toNatClampNeg = i := nI_clamp (by omega)
    have hbi : b7 i = nI (F i) := h2 i (Nat.le_refl i) z
    have b1 := hF i z
    have b2 := hF u hu
    have go : ∀ x, x = nI (G i) → wX_distanceOverCells_25 post J (nI s) (nI t) (nI u) f0 h0 n (nI (i + 1)) a1 a2 a3 a4 a5 a6 (upd b7 i x) a8 a9 a10 a11 a12 a13 a14 a15 a16 a17 a18 a19 a20 a21 a22 :=
      fun x ex => ih (i + 1) _ (by omega) (by omega) (rs_fill (P := fun p x => x = nI (G p)) h1 ex) (fun j c d => by rw [pk_un (by omega)]; exact h2 j (by omega) d)
    refine ⟨pk_in u 12 hu, rs_stepOver k h4 hC hu z (fun w w1 w2 w3 => ?_)⟩
    refine nm_r (e' := nI (F u + w)) (by rw [rs_rd rfl (by omega) hbu, nI_add]) ?_
    rw [hcl, hbi]
    refine ⟨pk_in i 12 z, pk_le (F i) (F u + w) (fun c => ?_) (fun c => ?_)⟩
    · exact ⟨pk_in i 12 z, pk_in i 12 z, nm_e (nm_r (nI_1 i) (go _ (by rw [← hG i z w w1 w3, Nat.min_eq_left c])))⟩
    · exact ⟨pk_in i 12 z, nm_e (nm_r (nI_1 i) (go _ (by rw [← hG i z w w1 w3, Nat.min_eq_right (by omega)])))⟩
theorem rs_oc11 {post : Int32 → St2 → Prop} {s t : Nat} (k : rs_ok g A B l) (h4 : ∀ i, i < 144 → a4 i = nI (rs_R g A B l i)) (hC : ∀ j, j < 144 → rs_C g A B l j (a22 j)) (hs : s < 12) (ht : t < 12)
    (H : ∀ b7 b8 : Nat → Int32, post (nI (rs_D g A B l s t)) (f0, h0, a1, a2, a3, a4, a5, a6, b7, b8, a9, a10, a11, a12, a13, a14, a15, a16, a17, a18, a19, a20, a21, a22)) :
    ∀ (n : Nat) (r : Int32) (b7 b8 : Nat → Int32), rs_cnt b8 12 < n → rs_Q (fun p => rs_D g A B l s p) s r b7 b8 → wX_distanceOverCells_11 post (nI s) (nI t) f0 h0 n r a1 a2 a3 a4 a5 a6 b7 b8 a9 a10 a11 a12 a13 a14 a15 a16 a17 a18 a19 a20 a21 a22 := by
  intro n
  induction n with
  | zero => intro r b7 b8 hn; exact absurd hn (by omega)
  | succ n ih =>
    intro r b7 b8 hn hQ
    rcases hQ with ⟨e, q1, q2, q3⟩ | ⟨u, e, hO, hI⟩
    · subst e
      refine br_t (by decide) ⟨pk_in t 12 ht, ?_⟩
      rw [rs_rd rfl (by omega) (q2 t ht)]
      exact H b7 b8
    · subst e
      have hu := hO.1
      have hc := rs_cnt_upd hu hO.2.1
      obtain ⟨F, f1, f2, f3, f4⟩ := rs_phaseC k hO hI
      refine br_f (nI_pos (by omega)) ⟨pk_in u 12 hu, nm_r (e' := upd b8 u 1) (by rw [nI_clamp (by omega)]) ⟨13, ?_⟩⟩
      refine rs_oc25 k h4 hC hu f2 f3 (fun c7 hc7 => ?_) 13 0 b7 (by omega) (by omega) (fun j hj => absurd hj (by omega)) (fun j _ hj => f1 j hj)
      exact rs_openF hs (fun p _ => rs_Dle k s p) (f4 c7 hc7) (fun r' hr' => ih r' c7 _ (by omega) hr')
theorem rs_distanceOverCells {post : Int32 → St2 → Prop} {s t : Nat} (k : rs_ok g A B l) (h4 : ∀ i, i < 144 → a4 i = nI (rs_R g A B l i)) (hC : ∀ j, j < 144 → rs_C g A B l j (a22 j)) (hs : s < 12) (ht : t < 12)
    (H : ∀ b7 b8 b9 b10 : Nat → Int32, post (nI (rs_D g A B l s t)) (f0, h0, a1, a2, a3, a4, a5, a6, b7, b8, b9, b10, a11, a12, a13, a14, a15, a16, a17, a18, a19, a20, a21, a22)) : wpX_distanceOverCells post (f0, h0, a1, a2, a3, a4, a5, a6, a7, a8, a9, a10, a11, a12, a13, a14, a15, a16, a17, a18, a19, a20, a21, a22) (nI s) (nI t) := by
  unfold wpX_distanceOverCells
  dsimp only
  refine rs_startBoth hs ht (fun b7 b8 b9 b10 h7 h8 h9 h10 => ?_)
  refine rs_openF hs (E := fun p => rs_D g A B l s p) (fun p _ => rs_Dle k s p) (Or.inl ⟨h8 s hs, h7⟩) (fun r hr => ⟨13, ?_⟩)
  exact rs_oc11 k h4 hC hs ht (fun c7 c8 => H c7 c8 b9 b10) 13 r b7 b8 (by have := rs_cnt_le b8 12; omega) hr
end
end
section
theorem rs_b8 : ∀ p, p < 128 → (nI p).toInt8.toInt32 = nI p := by decide +kernel
theorem rs_b8o : ∀ p, p < 128 → (nI p ||| 0).toInt8.toInt32 = nI p := by decide +kernel
theorem rs_fl1 : ∀ b, b < 12 → (nI 0 ||| ((1 : Int32) <<< ((nI b / 3) &&& 31))).toInt8.toInt32 = nI (2 ^ (b / 3)) := by decide +kernel
theorem rs_fl2 : ∀ b, b < 12 → ∀ t, t < 12 → (((nI (2 ^ (b / 3)) >>> ((nI t / 3) &&& 31)) &&& 1) = 0 ↔ b / 3 ≠ t / 3) := by decide +kernel
theorem rs_fl3 : ∀ b, b < 12 → 2 ^ (b / 3) < 128 := by decide +kernel
section
variable {f0 h0 : Int32} {a1 a2 a3 a4 a5 a6 a7 a8 a9 a10 a11 a12 a13 a14 a15 a16 a17 a18 a19 a20 a21 a22 : Nat → Int32}
variable {g A B l : Nat}
theorem rs_setPlace {post : St2 → Prop} {i p : Nat} (hi : i < 16) (hp : p < 12) (H : post (f0, h0, a1, a2, a3, a4, a5, a6, a7, a8, a9, a10, upd a11 i (nI p), upd a12 p (nI i), a13, a14, a15, a16, a17, a18, a19, a20, a21, a22)) : wpX_setPlace post (f0, h0, a1, a2, a3, a4, a5, a6, a7, a8, a9, a10, a11, a12, a13, a14, a15, a16, a17, a18, a19, a20, a21, a22) (nI i) (nI p) := by
  unfold wpX_setPlace
  dsimp only
  rw [nI_clamp (show i < 2 ^ 31 by omega), nI_clamp (show p < 2 ^ 31 by omega), rs_b8 i (by omega), rs_b8 p (by omega)]
  exact ⟨pk_in i 16 hi, nm_e ⟨pk_in p 12 hp, nm_e H⟩⟩
/-! startSearch -/
theorem rs_ss2 {post : St2 → Prop} {s : Nat} (hs : s < 12)
    (H : ∀ b7 b8 b11 b12 : Nat → Int32, (∀ p, p < 12 → b7 p = nI (rs_e s p)) → b11 0 = nI s → (∀ p, p < 12 → p ≠ s → b12 p = -1) → post (f0, 1, a1, a2, a3, a4, a5, a6, b7, b8, a9, a10, b11, b12, a13, a14, a15, a16, a17, a18, a19, a20, a21, a22)) :
    ∀ (n i : Nat) (b7 b8 b12 : Nat → Int32), i ≤ 12 → 12 - i < n → (∀ p, p < i → b7 p = nI 1000000) → (∀ p, p < i → b12 p = -1) → wX_startSearch_2 post (nI s) f0 h0 n (nI i) a1 a2 a3 a4 a5 a6 b7 b8 a9 a10 a11 b12 a13 a14 a15 a16 a17 a18 a19 a20 a21 a22 := by
  intro n
  induction n with
  | zero => intro i b7 b8 b12 hi hn; exact absurd hn (by omega)
  | succ n ih =>
    intro i b7 b8 b12 hi hn h7 h12
    refine pk_le 12 i (fun z => ?_) (fun z => ?_)
    · refine ⟨pk_in s 12 hs, nm_r (e' := upd b7 s 0) (by rw [nI_clamp (by omega)]) ?_⟩
      refine rs_setPlace (i := 0) (by omega) hs ?_
      refine H _ _ _ _ (fun p hp => ?_) pk_us (fun p hp hq => ?_)
      · by_cases e : p = s
        · rw [e, pk_us, rs_e0]; rfl
        · rw [pk_un e, h7 p (by omega), rs_eN e]
      · rw [pk_un hq]; exact h12 p (by omega)
    · rw [nI_clamp (show i < 2 ^ 31 by omega)]
      exact ⟨pk_in i 12 z, nm_e ⟨pk_in i 12 z, nm_e ⟨pk_in i 12 z, nm_e (nm_r (nI_1 i) (ih (i + 1) _ _ _ (by omega) (by omega) (rs_fill (P := fun p x => x = nI 1000000) h7 rfl) (rs_fill (P := fun p x => x = -1) h12 rfl)))⟩⟩⟩
theorem rs_startSearch {post : St2 → Prop} {s : Nat} (hs : s < 12)
    (H : ∀ b7 b8 b11 b12 : Nat → Int32, (∀ p, p < 12 → b7 p = nI (rs_e s p)) → b11 0 = nI s → (∀ p, p < 12 → p ≠ s → b12 p = -1) → post (f0, 1, a1, a2, a3, a4, a5, a6, b7, b8, a9, a10, b11, b12, a13, a14, a15, a16, a17, a18, a19, a20, a21, a22)) : wpX_startSearch post (f0, h0, a1, a2, a3, a4, a5, a6, a7, a8, a9, a10, a11, a12, a13, a14, a15, a16, a17, a18, a19, a20, a21, a22) (nI s) := by
  unfold wpX_startSearch
  exact ⟨13, rs_ss2 hs H 13 0 a7 a8 a12 (by omega) (by omega) (fun p hp => absurd hp (by omega)) (fun p hp => absurd hp (by omega))⟩
/-! takeNearest, of a heap of one -/
theorem rs_take {post : Int32 → St2 → Prop} {u : Nat} (hu : u < 12) (h11 : a11 0 = nI u) (H : post (nI u) (f0, 0, a1, a2, a3, a4, a5, a6, a7, a8, a9, a10, a11, upd a12 u (-1), a13, a14, a15, a16, a17, a18, a19, a20, a21, a22)) : wpX_takeNearest post (f0, 1, a1, a2, a3, a4, a5, a6, a7, a8, a9, a10, a11, a12, a13, a14, a15, a16, a17, a18, a19, a20, a21, a22) := by
  unfold wpX_takeNearest
  dsimp only
  refine nm_r h11 (nm_r (e' := 0) (by decide) ⟨pk_in 0 16 (by omega), nm_e (br_t (by decide) ⟨1, ?_⟩)⟩)
  refine br_t rfl ?_
  unfold wX_takeNearest_168
  exact br_t (by decide) ⟨pk_in u 12 hu, nm_r (by rw [nI_clamp (by omega)]) H⟩
/-! reach, with an empty heap -/
theorem rs_reach {post : St2 → Prop} {p w F : Nat} (hp : p < 12) (h7 : a7 p = nI F) (hF : F < 2 ^ 31) (hw : w < F) (h12 : a12 p = -1)
    (H : ∀ b11 b12 : Nat → Int32, b11 0 = nI p → post (f0, 1, a1, a2, a3, a4, a5, a6, upd a7 p (nI w), a8, a9, a10, b11, b12, a13, a14, a15, a16, a17, a18, a19, a20, a21, a22)) : wpX_reach post (f0, 0, a1, a2, a3, a4, a5, a6, a7, a8, a9, a10, a11, a12, a13, a14, a15, a16, a17, a18, a19, a20, a21, a22) (nI p) (nI w) := by
  unfold wpX_reach
  dsimp only
  rw [nI_clamp (show p < 2 ^ 31 by omega), h7, h12]
  refine ⟨pk_in p 12 hp, pk_le F w (fun c => absurd c (by omega)) (fun _ => ⟨pk_in p 12 hp, nm_e ⟨pk_in p 12 hp, br_f (by decide) ?_⟩⟩)⟩
  refine rs_setPlace (i := 0) (by omega) hp ?_
  dsimp only
  refine nm_r (e' := 1) (by decide) ?_
  unfold wX_reach_45
  rw [nI_clamp (show p < 2 ^ 31 by omega), pk_us]
  refine ⟨pk_in p 12 hp, ?_⟩
  unfold wpX_rise
  dsimp only
  refine ⟨pk_in 0 16 (by omega), nm_r (e' := nI p) (by rw [nI_clamp (by omega), pk_us]) ⟨1, ?_⟩⟩
  refine br_t (by decide) ?_
  unfold wX_rise_61
  refine rs_setPlace (i := 0) (by omega) hp ?_
  dsimp only
  exact H _ _ pk_us
/-! searchFrom -/
theorem rs_se19 {post : St2 → Prop} {J : Int32 → Int32 → (Nat → Int32) → (Nat → Int32) → (Nat → Int32) → (Nat → Int32) → (Nat → Int32) → (Nat → Int32) → (Nat → Int32) → (Nat → Int32) → (Nat → Int32) → (Nat → Int32) → (Nat → Int32) → (Nat → Int32) → (Nat → Int32) → (Nat → Int32) → (Nat → Int32) → (Nat → Int32) → (Nat → Int32) → (Nat → Int32) → (Nat → Int32) → (Nat → Int32) → (Nat → Int32) → (Nat → Int32) → Prop} {u : Nat} (hN : rs_N g A B l f0 a1 a2 a3) (hu : u < 12) (H : J f0 h0 a1 a2 a3 a4 a5 a6 a7 a8 a9 a10 a11 a12 a13 a14 a15 a16 a17 a18 a19 a20 a21 a22) :
    ∀ (n k : Nat), k ≤ 28 → 28 - k < n → (g = 1 → k = 0 → u ≠ A) → wX_searchFrom_19 post J (nI u) n (nI k) f0 h0 a1 a2 a3 a4 a5 a6 a7 a8 a9 a10 a11 a12 a13 a14 a15 a16 a17 a18 a19 a20 a21 a22 := by
  obtain ⟨⟨kg, kA, kB, kAB, kl, kl2⟩, hf, h1, h2, h3⟩ := hN
  intro n
  induction n with
  | zero => intro k hk hn; exact absurd hn (by omega)
  | succ n ih =>
    intro k hk hn hne
    refine pk_le 28 k (fun z => H) (fun z => ?_)
    refine rs_has kg hf z (fun e1 e2 => br_f (by decide) ?_) (fun e => br_t rfl (nm_r (nI_1 k) (ih (k + 1) (by omega) (by omega) (fun _ c => absurd c (by omega)))))
    obtain ⟨q1, q2, q3⟩ := h3 e1
    have ek : (nI k).toNatClampNeg = 0 := by rw [e2]; decide
    rw [ek, q1]
    exact ⟨pk_in k 28 z, pk_eq A u (fun c => absurd c.symm (hne e1 e2)) (fun _ => nm_r (nI_1 k) (ih (k + 1) (by omega) (by omega) (fun _ c => absurd c (by omega))))⟩
theorem rs_se19A {post : St2 → Prop} {J : Int32 → Int32 → (Nat → Int32) → (Nat → Int32) → (Nat → Int32) → (Nat → Int32) → (Nat → Int32) → (Nat → Int32) → (Nat → Int32) → (Nat → Int32) → (Nat → Int32) → (Nat → Int32) → (Nat → Int32) → (Nat → Int32) → (Nat → Int32) → (Nat → Int32) → (Nat → Int32) → (Nat → Int32) → (Nat → Int32) → (Nat → Int32) → (Nat → Int32) → (Nat → Int32) → (Nat → Int32) → (Nat → Int32) → Prop} {d F : Nat} (hN : rs_N g A B l f0 a1 a2 a3) (hg : g = 1) (h7 : a7 A = nI d) (hB : a7 B = nI F) (hF : F < 2 ^ 31) (hd : d + l < F) (h12 : a12 B = -1)
    (H : ∀ b11 b12 : Nat → Int32, b11 0 = nI B → J f0 1 a1 a2 a3 a4 a5 a6 (upd a7 B (nI (d + l))) a8 a9 a10 b11 b12 a13 a14 a15 a16 a17 a18 a19 a20 a21 a22) : ∃ n, wX_searchFrom_19 post J (nI A) n 0 f0 0 a1 a2 a3 a4 a5 a6 a7 a8 a9 a10 a11 a12 a13 a14 a15 a16 a17 a18 a19 a20 a21 a22 := by
  have hN' := hN
  obtain ⟨⟨kg, kA, kB, kAB, kl, kl2⟩, hf, h1, h2, h3⟩ := hN
  obtain ⟨q1, q2, q3⟩ := h3 hg
  refine ⟨29 + 1, ?_⟩
  refine pk_le 28 0 (fun z => absurd z (by omega)) (fun z => ?_)
  refine rs_has (k := 0) kg hf z (fun e1 e2 => br_f (by decide) ?_) (fun e => absurd ⟨hg, rfl⟩ e)
  have ek : (0 : Int32).toNatClampNeg = 0 := by decide
  rw [ek, q1, q2, q3, nI_clamp (show A < 2 ^ 31 by omega), h7, nI_add]
  refine ⟨pk_in 0 28 z, pk_eq A A (fun _ => ⟨pk_in 0 28 z, pk_in A 12 kA, pk_in 0 28 z, ?_⟩) (fun c => absurd rfl c)⟩
  refine rs_reach kB hB hF hd h12 (fun b11 b12 hb => nm_r (e' := nI 1) (by decide) ?_)
  exact rs_se19 hN' kA (H b11 b12 hb) 29 1 (by omega) (by omega) (fun _ c => absurd c (by omega))
theorem rs_se5b {post : St2 → Prop} {u : Nat} (hN : rs_N g A B l f0 a1 a2 a3) (hu : u < 12) (h11 : a11 0 = nI u) (hne : g = 1 → u ≠ A) (H : ∀ b12 : Nat → Int32, post (f0, 0, a1, a2, a3, a4, a5, a6, a7, a8, a9, a10, a11, b12, a13, a14, a15, a16, a17, a18, a19, a20, a21, a22)) (n : Nat) : wX_searchFrom_5 post (n + 1 + 1) f0 1 a1 a2 a3 a4 a5 a6 a7 a8 a9 a10 a11 a12 a13 a14 a15 a16 a17 a18 a19 a20 a21 a22 := by
  refine br_f (by decide) (rs_take hu h11 ⟨29, ?_⟩)
  exact rs_se19 hN hu (br_t (by decide) (H _)) 29 0 (by omega) (by omega) (fun c _ => hne c)
theorem rs_searchFrom {post : St2 → Prop} {s : Nat} (hN : rs_N g A B l f0 a1 a2 a3) (hs : s < 12)
    (H : ∀ (b7 b8 b11 b12 : Nat → Int32), (∀ p, p < 12 → b7 p = nI (rs_D g A B l s p)) → post (f0, 0, a1, a2, a3, a4, a5, a6, b7, b8, a9, a10, b11, b12, a13, a14, a15, a16, a17, a18, a19, a20, a21, a22)) : wpX_searchFrom post (f0, h0, a1, a2, a3, a4, a5, a6, a7, a8, a9, a10, a11, a12, a13, a14, a15, a16, a17, a18, a19, a20, a21, a22) (nI s) := by
  have hN' := hN
  obtain ⟨⟨kg, kA, kB, kAB, kl, kl2⟩, hf, h1, h2, h3⟩ := hN
  unfold wpX_searchFrom
  dsimp only
  refine rs_startSearch hs (fun b7 b8 b11 b12 h7 h11 h12 => ⟨3, ?_⟩)
  dsimp only
  by_cases c : g = 1 ∧ s = A
  · obtain ⟨c1, c2⟩ := c
    subst c2
    refine br_f (by decide) (rs_take hs h11 ?_)
    have e7 : b7 s = nI 0 := by rw [h7 s hs, rs_e0]
    have eB : b7 B = nI 1000000 := by rw [h7 B kB, rs_eN (by omega)]
    refine rs_se19A hN' c1 e7 eB (by omega) (by omega) (by rw [pk_un (by omega)]; exact h12 B kB (by omega)) (fun c11 c12 hc => ?_)
    refine rs_se5b hN' kB hc (fun _ => by omega) (fun d12 => H _ _ _ _ (fun p hp => ?_)) 0
    by_cases e : p = B
    · rw [e, pk_us]
      rcases rs_Dc g s B l s B with h | h | h
      · omega
      · rw [h.2.2.2.2, Nat.zero_add]
      · exact absurd ⟨c1, rfl, rfl⟩ h.2.1
    · rw [pk_un e, h7 p hp]
      rcases rs_Dc g s B l s p with h | h | h
      · rw [h.2, h.1, rs_e0]
      · exact absurd h.2.2.2.1 e
      · rw [h.2.2, rs_eN (by omega)]
  · refine rs_se5b hN' hs h11 (fun c1 c2 => c ⟨c1, c2⟩) (fun d12 => H _ _ _ _ (fun p hp => ?_)) 1
    rw [h7 p hp]
    rcases rs_Dc g A B l s p with h | h | h
    · rw [h.2, h.1, rs_e0]
    · exact absurd ⟨h.2.1, h.2.2.1⟩ c
    · rw [h.2.2, rs_eN (by omega)]
/-! distanceByFlags -/
theorem rs_df20 {post : Int32 → St2 → Prop} {J : Int32 → Int32 → (Nat → Int32) → (Nat → Int32) → (Nat → Int32) → (Nat → Int32) → (Nat → Int32) → (Nat → Int32) → (Nat → Int32) → (Nat → Int32) → (Nat → Int32) → (Nat → Int32) → (Nat → Int32) → (Nat → Int32) → (Nat → Int32) → (Nat → Int32) → (Nat → Int32) → (Nat → Int32) → (Nat → Int32) → (Nat → Int32) → (Nat → Int32) → (Nat → Int32) → (Nat → Int32) → (Nat → Int32) → Prop} {u t : Nat} (hN : rs_N g A B l f0 a1 a2 a3) (hu : u < 12) (ht : t < 12) (h20 : g = 1 → a20 0 = nI (2 ^ (B / 3))) (H : J f0 h0 a1 a2 a3 a4 a5 a6 a7 a8 a9 a10 a11 a12 a13 a14 a15 a16 a17 a18 a19 a20 a21 a22) :
    ∀ (n k : Nat), k ≤ 28 → 28 - k < n → (g = 1 → k = 0 → u = A → B / 3 ≠ t / 3) → wX_distanceByFlags_20 post J (nI t) (nI u) n (nI k) f0 h0 a1 a2 a3 a4 a5 a6 a7 a8 a9 a10 a11 a12 a13 a14 a15 a16 a17 a18 a19 a20 a21 a22 := by
  obtain ⟨⟨kg, kA, kB, kAB, kl, kl2⟩, hf, h1, h2, h3⟩ := hN
  intro n
  induction n with
  | zero => intro k hk hn; exact absurd hn (by omega)
  | succ n ih =>
    intro k hk hn hne
    refine pk_le 28 k (fun z => H) (fun z => ?_)
    refine rs_has kg hf z (fun e1 e2 => br_f (by decide) ?_) (fun e => br_t rfl (nm_r (nI_1 k) (ih (k + 1) (by omega) (by omega) (fun _ c => absurd c (by omega)))))
    obtain ⟨q1, q2, q3⟩ := h3 e1
    have ek : (nI k).toNatClampNeg = 0 := by rw [e2]; decide
    rw [ek, q1, h20 e1]
    refine ⟨pk_in k 28 z, pk_eq A u (fun c => ⟨pk_in k 28 z, by decide, br_t ((rs_fl2 B kB t ht).mpr (hne e1 e2 c.symm)) ?_⟩) (fun _ => ?_)⟩
    · exact nm_r (nI_1 k) (ih (k + 1) (by omega) (by omega) (fun _ c => absurd c (by omega)))
    · exact nm_r (nI_1 k) (ih (k + 1) (by omega) (by omega) (fun _ c => absurd c (by omega)))
theorem rs_df20A {post : Int32 → St2 → Prop} {J : Int32 → Int32 → (Nat → Int32) → (Nat → Int32) → (Nat → Int32) → (Nat → Int32) → (Nat → Int32) → (Nat → Int32) → (Nat → Int32) → (Nat → Int32) → (Nat → Int32) → (Nat → Int32) → (Nat → Int32) → (Nat → Int32) → (Nat → Int32) → (Nat → Int32) → (Nat → Int32) → (Nat → Int32) → (Nat → Int32) → (Nat → Int32) → (Nat → Int32) → (Nat → Int32) → (Nat → Int32) → (Nat → Int32) → Prop} {d F t : Nat} (hN : rs_N g A B l f0 a1 a2 a3) (hg : g = 1) (ht : t < 12) (h20 : g = 1 → a20 0 = nI (2 ^ (B / 3))) (hBt : B / 3 = t / 3) (h7 : a7 A = nI d) (hB : a7 B = nI F) (hF : F < 2 ^ 31) (hd : d + l < F) (h12 : a12 B = -1)
    (H : ∀ b11 b12 : Nat → Int32, b11 0 = nI B → J f0 1 a1 a2 a3 a4 a5 a6 (upd a7 B (nI (d + l))) a8 a9 a10 b11 b12 a13 a14 a15 a16 a17 a18 a19 a20 a21 a22) : ∃ n, wX_distanceByFlags_20 post J (nI t) (nI A) n 0 f0 0 a1 a2 a3 a4 a5 a6 a7 a8 a9 a10 a11 a12 a13 a14 a15 a16 a17 a18 a19 a20 a21 a22 := by
  have hN' := hN
  obtain ⟨⟨kg, kA, kB, kAB, kl, kl2⟩, hf, h1, h2, h3⟩ := hN
  obtain ⟨q1, q2, q3⟩ := h3 hg
  refine ⟨29 + 1, ?_⟩
  refine pk_le 28 0 (fun z => absurd z (by omega)) (fun z => ?_)
  refine rs_has (k := 0) kg hf z (fun e1 e2 => br_f (by decide) ?_) (fun e => absurd ⟨hg, rfl⟩ e)
  have ek : (0 : Int32).toNatClampNeg = 0 := by decide
  rw [ek, q1, q2, q3, nI_clamp (show A < 2 ^ 31 by omega), h7, nI_add, h20 hg]
  refine ⟨pk_in 0 28 z, pk_eq A A (fun _ => ⟨pk_in 0 28 z, by decide, br_f (fun c => (rs_fl2 B kB t ht).mp c hBt) ⟨pk_in 0 28 z, pk_in A 12 kA, pk_in 0 28 z, ?_⟩⟩) (fun c => absurd rfl c)⟩
  refine rs_reach kB hB hF hd h12 (fun b11 b12 hb => nm_r (e' := nI 1) (by decide) ?_)
  exact rs_df20 hN' kA ht h20 (H b11 b12 hb) 29 1 (by omega) (by omega) (fun _ c => absurd c (by omega))
theorem rs_df5b {post : Int32 → St2 → Prop} {u t d : Nat} (hN : rs_N g A B l f0 a1 a2 a3) (hu : u < 12) (ht : t < 12) (h20 : g = 1 → a20 0 = nI (2 ^ (B / 3))) (h11 : a11 0 = nI u) (hne : g = 1 → u = A → B / 3 ≠ t / 3) (h7 : a7 t = nI d) (H : ∀ b12 : Nat → Int32, post (nI d) (f0, 0, a1, a2, a3, a4, a5, a6, a7, a8, a9, a10, a11, b12, a13, a14, a15, a16, a17, a18, a19, a20, a21, a22)) (n : Nat) : wX_distanceByFlags_5 post (nI t) (n + 1 + 1) f0 1 a1 a2 a3 a4 a5 a6 a7 a8 a9 a10 a11 a12 a13 a14 a15 a16 a17 a18 a19 a20 a21 a22 := by
  refine br_f (by decide) (rs_take hu h11 ⟨29, ?_⟩)
  refine rs_df20 hN hu ht h20 (br_t (by decide) ⟨pk_in t 12 ht, ?_⟩) 29 0 (by omega) (by omega) (fun c _ => hne c)
  rw [nI_clamp (show t < 2 ^ 31 by omega), h7]
  exact H _
theorem rs_distanceByFlags {post : Int32 → St2 → Prop} {s t : Nat} (hN : rs_N g A B l f0 a1 a2 a3) (h20 : g = 1 → a20 0 = nI (2 ^ (B / 3))) (hs : s < 12) (ht : t < 12)
    (H : ∀ (b7 b8 b11 b12 : Nat → Int32), post (nI (rs_D g A B l s t)) (f0, 0, a1, a2, a3, a4, a5, a6, b7, b8, a9, a10, b11, b12, a13, a14, a15, a16, a17, a18, a19, a20, a21, a22)) : wpX_distanceByFlags post (f0, h0, a1, a2, a3, a4, a5, a6, a7, a8, a9, a10, a11, a12, a13, a14, a15, a16, a17, a18, a19, a20, a21, a22) (nI s) (nI t) := by
  have hN' := hN
  obtain ⟨⟨kg, kA, kB, kAB, kl, kl2⟩, hf, h1, h2, h3⟩ := hN
  unfold wpX_distanceByFlags
  dsimp only
  refine rs_startSearch hs (fun b7 b8 b11 b12 h7 h11 h12 => ⟨3, ?_⟩)
  dsimp only
  by_cases c : g = 1 ∧ s = A ∧ B / 3 = t / 3
  · obtain ⟨c1, c2, c3⟩ := c
    subst c2
    refine br_f (by decide) (rs_take hs h11 ?_)
    have e7 : b7 s = nI 0 := by rw [h7 s hs, rs_e0]
    have eB : b7 B = nI 1000000 := by rw [h7 B kB, rs_eN (by omega)]
    refine rs_df20A hN' c1 ht h20 c3 e7 eB (by omega) (by omega) (by rw [pk_un (by omega)]; exact h12 B kB (by omega)) (fun c11 c12 hc => ?_)
    refine rs_df5b (d := rs_D g s B l s t) hN' kB ht h20 hc (fun _ e => absurd e.symm (by omega)) ?_ (fun d12 => H _ _ _ _) 0
    by_cases e : t = B
    · rw [e, pk_us]
      rcases rs_Dc g s B l s B with h | h | h
      · omega
      · rw [h.2.2.2.2, Nat.zero_add]
      · exact absurd ⟨c1, rfl, rfl⟩ h.2.1
    · rw [pk_un e, h7 t ht]
      rcases rs_Dc g s B l s t with h | h | h
      · rw [h.2, h.1, rs_e0]
      · exact absurd h.2.2.2.1 e
      · rw [h.2.2, rs_eN (by omega)]
  · refine rs_df5b (d := rs_D g A B l s t) hN' hs ht h20 h11 (fun c1 c2 c3 => c ⟨c1, c2, c3⟩) ?_ (fun d12 => H _ _ _ _) 1
    rw [h7 t ht]
    rcases rs_Dc g A B l s t with h | h | h
    · rw [h.2, h.1, rs_e0]
    · exact absurd ⟨h.2.1, h.2.2.1, by rw [h.2.2.2.1]⟩ c
    · rw [h.2.2, rs_eN (by omega)]
/-! layFlags -/
theorem rs_lf59 {post : St2 → Prop} {J : Int32 → Int32 → Int32 → (Nat → Int32) → (Nat → Int32) → (Nat → Int32) → (Nat → Int32) → (Nat → Int32) → (Nat → Int32) → (Nat → Int32) → (Nat → Int32) → (Nat → Int32) → (Nat → Int32) → (Nat → Int32) → (Nat → Int32) → (Nat → Int32) → (Nat → Int32) → (Nat → Int32) → (Nat → Int32) → (Nat → Int32) → (Nat → Int32) → (Nat → Int32) → (Nat → Int32) → (Nat → Int32) → (Nat → Int32) → Prop} {t : Nat} (hN : rs_N g A B l f0 a1 a2 a3) (ht : t < 12) (h9 : ∀ p, p < 12 → a9 p = nI (rs_D g A B l p t))
    (H : ∀ b20 : Nat → Int32, (g = 1 → b20 0 = nI (if B < t + 1 then 2 ^ (B / 3) else 0)) → J (nI (t + 1)) f0 h0 a1 a2 a3 a4 a5 a6 a7 a8 a9 a10 a11 a12 a13 a14 a15 a16 a17 a18 a19 b20 a21 a22) :
    ∀ (n k : Nat) (b20 : Nat → Int32), k ≤ 28 → 28 - k < n → (g = 1 → b20 0 = nI (if B < t ∨ (B = t ∧ 0 < k) then 2 ^ (B / 3) else 0)) → wX_layFlags_59 post J (nI t) f0 h0 n (nI k) a1 a2 a3 a4 a5 a6 a7 a8 a9 a10 a11 a12 a13 a14 a15 a16 a17 a18 a19 b20 a21 a22 := by
  obtain ⟨⟨kg, kA, kB, kAB, kl, kl2⟩, hf, h1, h2, h3⟩ := hN
  intro n
  induction n with
  | zero => intro k b20 hk hn; exact absurd hn (by omega)
  | succ n ih =>
    intro k b20 hk hn h
    refine pk_le 28 k (fun z => nm_r (nI_1 t) (H b20 (fun e => ?_))) (fun z => ?_)
    · rw [h e]
      by_cases c : B < t + 1
      · rw [if_pos c, if_pos (by omega)]
      · rw [if_neg c, if_neg (by omega)]
    · have hcl : (nI k).toNatClampNeg = k := nI_clamp (by omega)
      have go : ∀ v : Int32, (g = 1 → k = 0 → v = nI (if B < t + 1 then 2 ^ (B / 3) else 0)) → wX_layFlags_59 post J (nI t) f0 h0 n (nI (k + 1)) a1 a2 a3 a4 a5 a6 a7 a8 a9 a10 a11 a12 a13 a14 a15 a16 a17 a18 a19 (upd b20 k v) a21 a22 := by
        intro v hv
        refine ih (k + 1) _ (by omega) (by omega) (fun e => ?_)
        by_cases e0 : k = 0
        · rw [e0, pk_us, hv e e0]
          by_cases c : B < t + 1
          · rw [if_pos c, if_pos (by omega)]
          · rw [if_neg c, if_neg (by omega)]
        · rw [pk_un (by omega), h e]
          by_cases c : B < t + 1
          · rw [if_pos (by omega), if_pos (by omega)]
          · rw [if_neg (by omega), if_neg (by omega)]
      have q125 : (g = 1 → k = 0 → B ≠ t) → wX_layFlags_125 post J (wX_layFlags_59 post J (nI t) f0 h0 n) (nI t) (nI k) f0 h0 a1 a2 a3 a4 a5 a6 a7 a8 a9 a10 a11 a12 a13 a14 a15 a16 a17 a18 a19 b20 a21 a22 := by
        intro hne
        unfold wX_layFlags_125 wX_layFlags_126
        rw [hcl]
        refine ⟨pk_in k 28 z, br_t rfl ⟨pk_in k 28 z, nm_e (nm_r (nI_1 k) (go _ (fun e e0 => ?_)))⟩⟩
        have := hne e e0
        have hb := rs_fl3 B kB
        rw [e0, h e]
        by_cases c : B < t + 1
        · rw [if_pos c, if_pos (by omega), rs_b8o _ hb]
        · rw [if_neg c, if_neg (by omega), rs_b8o _ (by omega)]
      refine rs_has kg hf z (fun e1 e2 => br_f (by decide) ?_) (fun e => br_t rfl (q125 (fun e1 e2 => absurd ⟨e1, e2⟩ e)))
      obtain ⟨q1, q2, q3⟩ := h3 e1
      have ek : (nI k).toNatClampNeg = 0 := by rw [e2]; decide
      rw [ek, q1, q2, q3, nI_clamp (show A < 2 ^ 31 by omega), nI_clamp (show B < 2 ^ 31 by omega), h9 A kA, h9 B kB]
      have dB := rs_Dle (g := g) (A := A) (B := B) (l := l) ⟨kg, kA, kB, kAB, kl, kl2⟩ B t
      have dA := rs_Dle (g := g) (A := A) (B := B) (l := l) ⟨kg, kA, kB, kAB, kl, kl2⟩ A t
      refine ⟨pk_in k 28 z, pk_in B 12 kB, pk_le 1000000 (rs_D g A B l B t) (fun c => q125 (fun _ _ => ?_)) (fun c => ?_)⟩
      · intro e
        rw [← e, rs_Ds] at c
        omega
      · have eB : B = t := by rcases rs_Dc g A B l B t with h | h | h <;> omega
        have d2 : rs_D g A B l A t = l := by rcases rs_Dc g A B l A t with h | h | h <;> omega
        have d1 : rs_D g A B l B t = 0 := by rw [← eB, rs_Ds]
        rw [d1, d2, nI_add]
        refine ⟨pk_in k 28 z, pk_in A 12 kA, pk_in k 28 z, pk_in k 28 z, pk_in B 12 kB, pk_eq l (l + 0) (fun _ => ?_) (fun c => absurd rfl c)⟩
        unfold wX_layFlags_126
        rw [hcl]
        refine ⟨pk_in k 28 z, br_f (by decide) ⟨by decide, pk_in k 28 z, nm_e (nm_r (nI_1 k) (go _ (fun e e0 => ?_)))⟩⟩
        rw [e0, h e, if_neg (by omega), if_pos (by omega), ← eB]
        exact rs_fl1 B kB
theorem rs_lf40 {post : St2 → Prop} {J : Int32 → Int32 → Int32 → (Nat → Int32) → (Nat → Int32) → (Nat → Int32) → (Nat → Int32) → (Nat → Int32) → (Nat → Int32) → (Nat → Int32) → (Nat → Int32) → (Nat → Int32) → (Nat → Int32) → (Nat → Int32) → (Nat → Int32) → (Nat → Int32) → (Nat → Int32) → (Nat → Int32) → (Nat → Int32) → (Nat → Int32) → (Nat → Int32) → (Nat → Int32) → (Nat → Int32) → (Nat → Int32) → (Nat → Int32) → Prop} {t : Nat} (k : rs_ok g A B l) (ht : t < 12) (h4 : ∀ i, i < 144 → a4 i = nI (rs_R g A B l i))
    (H : ∀ b9 b10 : Nat → Int32, (∀ p, p < 12 → b9 p = nI (rs_D g A B l p t)) → ∃ n, wX_layFlags_59 post J (nI t) f0 h0 n 0 a1 a2 a3 a4 a5 a6 a7 a8 b9 b10 a11 a12 a13 a14 a15 a16 a17 a18 a19 a20 a21 a22) :
    ∀ (n : Nat) (r : Int32) (b9 b10 : Nat → Int32), rs_cnt b10 12 < n → rs_Q (fun p => rs_D g A B l p t) t r b9 b10 → wX_layFlags_40 post J (nI t) n r f0 h0 a1 a2 a3 a4 a5 a6 a7 a8 b9 b10 a11 a12 a13 a14 a15 a16 a17 a18 a19 a20 a21 a22 := by
  intro n
  induction n with
  | zero => intro r b9 b10 hn; exact absurd hn (by omega)
  | succ n ih =>
    intro r b9 b10 hn hQ
    rcases hQ with ⟨e, q1, q2, q3⟩ | ⟨u, e, hO, hI⟩
    · subst e
      exact br_t (by decide) (H b9 b10 q2)
    · subst e
      have hu := hO.1
      have hc := rs_cnt_upd hu hO.2.1
      refine br_f (nI_pos (by omega)) ?_
      refine rs_stepB h4 (rs_Rle k) (rs_TB k ht) hO hI (fun c9 hc9 => ?_)
      exact rs_openB ht (fun p _ => rs_Dle k p t) hc9 (fun r' hr' => ih r' c9 _ (by omega) hr')
theorem rs_lf23 {post : St2 → Prop} (hN : rs_N g A B l f0 a1 a2 a3) (h4 : ∀ i, i < 144 → a4 i = nI (rs_R g A B l i))
    (H : ∀ b7 b8 b9 b10 b20 : Nat → Int32, (g = 1 → b20 0 = nI (2 ^ (B / 3))) → post (f0, h0, a1, a2, a3, a4, a5, a6, b7, b8, b9, b10, a11, a12, a13, a14, a15, a16, a17, a18, a19, b20, a21, a22)) :
    ∀ (n t : Nat) (b7 b8 b9 b10 b20 : Nat → Int32), t ≤ 12 → 12 - t < n → (g = 1 → b20 0 = nI (if B < t then 2 ^ (B / 3) else 0)) → wX_layFlags_23 post n (nI t) f0 h0 a1 a2 a3 a4 a5 a6 b7 b8 b9 b10 a11 a12 a13 a14 a15 a16 a17 a18 a19 b20 a21 a22 := by
  intro n
  induction n with
  | zero => intro t b7 b8 b9 b10 b20 hi hn; exact absurd hn (by omega)
  | succ n ih =>
    intro t b7 b8 b9 b10 b20 hi hn h
    refine pk_le 12 t (fun z => H b7 b8 b9 b10 b20 (fun e => ?_)) (fun z => ?_)
    · have hB := hN.1.2.2.1
      rw [h e, if_pos (by omega)]
    · refine rs_startBoth z z (fun c7 c8 c9 c10 h7 h8 h9 h10 => ?_)
      refine rs_openB z (E := fun p => rs_D g A B l p t) (fun p _ => rs_Dle hN.1 p t) (Or.inl ⟨h10 t z, h9⟩) (fun r hr => ⟨13, ?_⟩)
      refine rs_lf40 hN.1 z h4 (fun d9 d10 hd => ⟨29, ?_⟩) 13 r c9 c10 (by have := rs_cnt_le c10 12; omega) hr
      refine rs_lf59 hN z hd (fun d20 hd20 => ih (t + 1) c7 c8 d9 d10 d20 (by omega) (by omega) hd20) 29 0 b20 (by omega) (by omega) (fun e => ?_)
      rw [h e]
      by_cases c : B < t
      · rw [if_pos c, if_pos (by omega)]
      · rw [if_neg c, if_neg (by omega)]
theorem rs_lf2 {post : St2 → Prop} (H : ∀ b20 : Nat → Int32, b20 0 = nI 0 → ∃ n, wX_layFlags_23 post n 0 f0 h0 a1 a2 a3 a4 a5 a6 a7 a8 a9 a10 a11 a12 a13 a14 a15 a16 a17 a18 a19 b20 a21 a22) :
    ∀ (n i : Nat) (b20 : Nat → Int32), i ≤ 28 → 28 - i < n → (0 < i → b20 0 = nI 0) → wX_layFlags_2 post f0 h0 n (nI i) a1 a2 a3 a4 a5 a6 a7 a8 a9 a10 a11 a12 a13 a14 a15 a16 a17 a18 a19 b20 a21 a22 := by
  intro n
  induction n with
  | zero => intro i b20 hi hn; exact absurd hn (by omega)
  | succ n ih =>
    intro i b20 hi hn h
    refine pk_le 28 i (fun z => H b20 (h (by omega))) (fun z => ?_)
    rw [nI_clamp (show i < 2 ^ 31 by omega)]
    refine ⟨pk_in i 28 z, nm_e (nm_r (nI_1 i) (ih (i + 1) _ (by omega) (by omega) (fun _ => ?_)))⟩
    by_cases e : i = 0
    · rw [e, pk_us]; rfl
    · rw [pk_un (by omega)]; exact h (by omega)
theorem rs_layFlags {post : St2 → Prop} (hN : rs_N g A B l f0 a1 a2 a3) (h4 : ∀ i, i < 144 → a4 i = nI (rs_R g A B l i))
    (H : ∀ b7 b8 b9 b10 b20 : Nat → Int32, (g = 1 → b20 0 = nI (2 ^ (B / 3))) → post (f0, h0, a1, a2, a3, a4, a5, a6, b7, b8, b9, b10, a11, a12, a13, a14, a15, a16, a17, a18, a19, b20, a21, a22)) : wpX_layFlags post (f0, h0, a1, a2, a3, a4, a5, a6, a7, a8, a9, a10, a11, a12, a13, a14, a15, a16, a17, a18, a19, a20, a21, a22) := by
  unfold wpX_layFlags
  refine ⟨29, rs_lf2 (fun b20 hb => ⟨13, ?_⟩) 29 0 a20 (by omega) (by omega) (fun c => absurd c (by omega))⟩
  exact rs_lf23 hN h4 H 13 0 a7 a8 a9 a10 b20 (by omega) (by omega) (fun _ => by rw [if_neg (by omega)]; exact hb)
end
end
section
def rs_L (x : Int32) : Prop := ∃ d, x = nI d ∧ (d ≤ 30 ∨ d = 1000000)
theorem rs_diff {a b v : Nat} (ha : a ≤ 30) (hb : b ≤ 30) (hv : v ≤ 30) (h : ¬ nI a - nI b ≤ nI v) : ∃ w, w ≤ 30 ∧ nI a - nI b = nI w := by
  by_cases c : b ≤ a
  · exact ⟨a - b, by omega, pk_sub c⟩
  · refine absurd ?_ h
    rw [Int32.le_iff_toInt_le, pk_sub_toInt (by omega) (by omega), nI_toInt (by omega)]
    omega
theorem rs_D30 {g A B l : Nat} (k : rs_ok g A B l) (s t : Nat) : rs_D g A B l s t ≤ 30 ∨ rs_D g A B l s t = 1000000 := by
  obtain ⟨_, _, _, _, _, _⟩ := k
  rcases rs_Dc g A B l s t with h | h | h <;> omega
section
variable {f0 h0 : Int32} {a1 a2 a3 a4 a5 a6 a7 a8 a9 a10 a11 a12 a13 a14 a15 a16 a17 a18 a19 a20 a21 a22 : Nat → Int32}
variable {g A B l : Nat}
/-! layLandmarks -/
theorem rs_ll82 {post : St2 → Prop} {J : Int32 → Int32 → Int32 → (Nat → Int32) → (Nat → Int32) → (Nat → Int32) → (Nat → Int32) → (Nat → Int32) → (Nat → Int32) → (Nat → Int32) → (Nat → Int32) → (Nat → Int32) → (Nat → Int32) → (Nat → Int32) → (Nat → Int32) → (Nat → Int32) → (Nat → Int32) → (Nat → Int32) → (Nat → Int32) → (Nat → Int32) → (Nat → Int32) → (Nat → Int32) → (Nat → Int32) → (Nat → Int32) → (Nat → Int32) → Prop} {q : Nat} (hq : q < 3) (h7 : ∀ p, p < 12 → rs_L (a7 p)) (h9 : ∀ p, p < 12 → rs_L (a9 p))
    (H : ∀ b18 b19 : Nat → Int32, (∀ j, j < (q + 1) * 12 → rs_L (b18 j)) → (∀ j, j < (q + 1) * 12 → rs_L (b19 j)) → J (nI (q + 1)) f0 h0 a1 a2 a3 a4 a5 a6 a7 a8 a9 a10 a11 a12 a13 a14 a15 a16 a17 b18 b19 a20 a21 a22) :
    ∀ (n i : Nat) (b18 b19 : Nat → Int32), i ≤ 12 → 12 - i < n → (∀ j, j < q * 12 + i → rs_L (b18 j)) → (∀ j, j < q * 12 + i → rs_L (b19 j)) → wX_layLandmarks_82 post J (nI q) f0 h0 n (nI i) a1 a2 a3 a4 a5 a6 a7 a8 a9 a10 a11 a12 a13 a14 a15 a16 a17 b18 b19 a20 a21 a22 := by
  intro n
  induction n with
  | zero => intro i b18 b19 hi hn; exact absurd hn (by omega)
  | succ n ih =>
    intro i b18 b19 hi hn h18 h19
    refine pk_le 12 i (fun z => nm_r (nI_1 q) (H b18 b19 (fun j hj => h18 j (by omega)) (fun j hj => h19 j (by omega)))) (fun z => ?_)
    rw [rs_ix, nI_clamp (show i < 2 ^ 31 by omega), nI_clamp (show q * 12 + i < 2 ^ 31 by omega)]
    refine ⟨pk_in i 12 z, pk_in (q * 12 + i) 36 (by omega), nm_e ⟨pk_in i 12 z, pk_in (q * 12 + i) 36 (by omega), nm_e (nm_r (nI_1 i) ?_)⟩⟩
    exact ih (i + 1) _ _ (by omega) (by omega) (rs_fill (P := fun _ x => rs_L x) h18 (h7 i z)) (rs_fill (P := fun _ x => rs_L x) h19 (h9 i z))
theorem rs_ll63 {post : St2 → Prop} {J : Int32 → Int32 → Int32 → (Nat → Int32) → (Nat → Int32) → (Nat → Int32) → (Nat → Int32) → (Nat → Int32) → (Nat → Int32) → (Nat → Int32) → (Nat → Int32) → (Nat → Int32) → (Nat → Int32) → (Nat → Int32) → (Nat → Int32) → (Nat → Int32) → (Nat → Int32) → (Nat → Int32) → (Nat → Int32) → (Nat → Int32) → (Nat → Int32) → (Nat → Int32) → (Nat → Int32) → (Nat → Int32) → (Nat → Int32) → Prop} {q m : Nat} (k : rs_ok g A B l) (hm : m < 12) (h4 : ∀ i, i < 144 → a4 i = nI (rs_R g A B l i))
    (H : ∀ b9 b10 : Nat → Int32, (∀ p, p < 12 → b9 p = nI (rs_D g A B l p m)) → ∃ n, wX_layLandmarks_82 post J (nI q) f0 h0 n 0 a1 a2 a3 a4 a5 a6 a7 a8 b9 b10 a11 a12 a13 a14 a15 a16 a17 a18 a19 a20 a21 a22) :
    ∀ (n : Nat) (r : Int32) (b9 b10 : Nat → Int32), rs_cnt b10 12 < n → rs_Q (fun p => rs_D g A B l p m) m r b9 b10 → wX_layLandmarks_63 post J (nI q) n r f0 h0 a1 a2 a3 a4 a5 a6 a7 a8 b9 b10 a11 a12 a13 a14 a15 a16 a17 a18 a19 a20 a21 a22 := by
  intro n
  induction n with
  | zero => intro r b9 b10 hn; exact absurd hn (by omega)
  | succ n ih =>
    intro r b9 b10 hn hQ
    rcases hQ with ⟨e, q1, q2, q3⟩ | ⟨u, e, hO, hI⟩
    · subst e
      exact br_t (by decide) (H b9 b10 q2)
    · subst e
      have hu := hO.1
      have hc := rs_cnt_upd hu hO.2.1
      refine br_f (nI_pos (by omega)) ?_
      refine rs_stepB h4 (rs_Rle k) (rs_TB k hm) hO hI (fun c9 hc9 => ?_)
      exact rs_openB hm (fun p _ => rs_Dle k p m) hc9 (fun r' hr' => ih r' c9 _ (by omega) hr')
theorem rs_ll41 {post : St2 → Prop} {J : Int32 → Int32 → Int32 → (Nat → Int32) → (Nat → Int32) → (Nat → Int32) → (Nat → Int32) → (Nat → Int32) → (Nat → Int32) → (Nat → Int32) → (Nat → Int32) → (Nat → Int32) → (Nat → Int32) → (Nat → Int32) → (Nat → Int32) → (Nat → Int32) → (Nat → Int32) → (Nat → Int32) → (Nat → Int32) → (Nat → Int32) → (Nat → Int32) → (Nat → Int32) → (Nat → Int32) → (Nat → Int32) → (Nat → Int32) → Prop} {q m : Nat} (k : rs_ok g A B l) (hm : m < 12) (h4 : ∀ i, i < 144 → a4 i = nI (rs_R g A B l i)) (hIb : rs_I (fun p => rs_D g A B l p m) m a9 a10)
    (H : ∀ b7 b8 b9 b10 : Nat → Int32, (∀ p, p < 12 → b7 p = nI (rs_D g A B l m p)) → (∀ p, p < 12 → b9 p = nI (rs_D g A B l p m)) → ∃ n, wX_layLandmarks_82 post J (nI q) f0 h0 n 0 a1 a2 a3 a4 a5 a6 b7 b8 b9 b10 a11 a12 a13 a14 a15 a16 a17 a18 a19 a20 a21 a22) :
    ∀ (n : Nat) (r : Int32) (b7 b8 : Nat → Int32), rs_cnt b8 12 < n → rs_Q (fun p => rs_D g A B l m p) m r b7 b8 → wX_layLandmarks_41 post J (nI q) n r f0 h0 a1 a2 a3 a4 a5 a6 b7 b8 a9 a10 a11 a12 a13 a14 a15 a16 a17 a18 a19 a20 a21 a22 := by
  intro n
  induction n with
  | zero => intro r b7 b8 hn; exact absurd hn (by omega)
  | succ n ih =>
    intro r b7 b8 hn hQ
    rcases hQ with ⟨e, q1, q2, q3⟩ | ⟨u, e, hO, hI⟩
    · subst e
      refine br_t (by decide) ?_
      refine rs_openB hm (fun p _ => rs_Dle k p m) hIb (fun r' hr' => ⟨13, ?_⟩)
      exact rs_ll63 k hm h4 (fun c9 c10 hc9 => H b7 b8 c9 c10 q2 hc9) 13 r' a9 a10 (by have := rs_cnt_le a10 12; omega) hr'
    · subst e
      have hu := hO.1
      have hc := rs_cnt_upd hu hO.2.1
      refine br_f (nI_pos (by omega)) ?_
      refine rs_stepF h4 (rs_Rle k) (rs_TF k m) hO hI (fun c7 hc7 => ?_)
      exact rs_openF hm (fun p _ => rs_Dle k m p) hc7 (fun r' hr' => ih r' c7 _ (by omega) hr')
theorem rs_mk : ∀ q, q < 3 → (nI q * 5 - nI q * 5 / 12 * 12).toInt8.toInt32 = nI (q * 5) := by decide +kernel
theorem rs_ll2 {post : St2 → Prop} (k : rs_ok g A B l) (h4 : ∀ i, i < 144 → a4 i = nI (rs_R g A B l i))
    (H : ∀ b7 b8 b9 b10 b17 b18 b19 : Nat → Int32, (∀ j, j < 36 → rs_L (b18 j)) → (∀ j, j < 36 → rs_L (b19 j)) → post (f0, h0, a1, a2, a3, a4, a5, a6, b7, b8, b9, b10, a11, a12, a13, a14, a15, a16, b17, b18, b19, a20, a21, a22)) :
    ∀ (n q : Nat) (b7 b8 b9 b10 b17 b18 b19 : Nat → Int32), q ≤ 3 → 3 - q < n → (∀ j, j < q * 12 → rs_L (b18 j)) → (∀ j, j < q * 12 → rs_L (b19 j)) → wX_layLandmarks_2 post n (nI q) f0 h0 a1 a2 a3 a4 a5 a6 b7 b8 b9 b10 a11 a12 a13 a14 a15 a16 b17 b18 b19 a20 a21 a22 := by
  intro n
  induction n with
  | zero => intro q b7 b8 b9 b10 b17 b18 b19 hi hn; exact absurd hn (by omega)
  | succ n ih =>
    intro q b7 b8 b9 b10 b17 b18 b19 hi hn h18 h19
    refine pk_le 3 q (fun z => H b7 b8 b9 b10 b17 b18 b19 (fun j hj => h18 j (by omega)) (fun j hj => h19 j (by omega))) (fun z => ?_)
    have hm : q * 5 < 12 := by omega
    refine ⟨by decide, pk_in q 3 z, nm_r (e' := upd b17 q (nI (q * 5))) (by rw [nI_clamp (by omega), rs_mk q z]) ?_⟩
    rw [nI_clamp (show q < 2 ^ 31 by omega), pk_us]
    refine ⟨pk_in q 3 z, pk_in q 3 z, ?_⟩
    refine rs_startBoth hm hm (fun c7 c8 c9 c10 h7 h8 h9 h10 => ?_)
    refine rs_openF hm (E := fun p => rs_D g A B l (q * 5) p) (fun p _ => rs_Dle k _ p) (Or.inl ⟨h8 _ hm, h7⟩) (fun r hr => ⟨13, ?_⟩)
    refine rs_ll41 k hm h4 (Or.inl ⟨h10 _ hm, h9⟩) (fun d7 d8 d9 d10 hd7 hd9 => ⟨13, ?_⟩) 13 r c7 c8 (by have := rs_cnt_le c8 12; omega) hr
    exact rs_ll82 z (fun p hp => ⟨_, hd7 p hp, rs_D30 k _ _⟩) (fun p hp => ⟨_, hd9 p hp, rs_D30 k _ _⟩) (fun d18 d19 x18 x19 => ih (q + 1) d7 d8 d9 d10 _ d18 d19 (by omega) (by omega) x18 x19) 13 0 b18 b19 (by omega) (by omega) (fun j hj => h18 j (by omega)) (fun j hj => h19 j (by omega))
theorem rs_layLandmarks {post : St2 → Prop} (k : rs_ok g A B l) (h4 : ∀ i, i < 144 → a4 i = nI (rs_R g A B l i))
    (H : ∀ b7 b8 b9 b10 b17 b18 b19 : Nat → Int32, (∀ j, j < 36 → rs_L (b18 j)) → (∀ j, j < 36 → rs_L (b19 j)) → post (f0, h0, a1, a2, a3, a4, a5, a6, b7, b8, b9, b10, a11, a12, a13, a14, a15, a16, b17, b18, b19, a20, a21, a22)) : wpX_layLandmarks post (f0, h0, a1, a2, a3, a4, a5, a6, a7, a8, a9, a10, a11, a12, a13, a14, a15, a16, a17, a18, a19, a20, a21, a22) := by
  unfold wpX_layLandmarks
  exact ⟨4, rs_ll2 k h4 H 4 0 a7 a8 a9 a10 a17 a18 a19 (by omega) (by omega) (fun j hj => absurd hj (by omega)) (fun j hj => absurd hj (by omega))⟩
/-! atLeast -/
theorem rs_al5 {post : Int32 → Prop} {p t : Nat} (h18 : ∀ j, j < 36 → rs_L (a18 j)) (h19 : ∀ j, j < 36 → rs_L (a19 j)) (hp : p < 12) (ht : t < 12) (H : ∀ v, v ≤ 30 → post (nI v)) :
    ∀ n q v : Nat, q ≤ 3 → 3 - q < n → v ≤ 30 → wX_atLeast_5 post (nI p) (nI t) f0 h0 a1 a2 a3 a4 a5 a6 a7 a8 a9 a10 a11 a12 a13 a14 a15 a16 a17 a18 a19 a20 a21 a22 n (nI v) (nI q) := by
  intro n
  induction n with
  | zero => intro q v hi hn; exact absurd hn (by omega)
  | succ n ih =>
    intro q v hi hn hv
    refine pk_le 3 q (fun z => H v hv) (fun z => ?_)
    obtain ⟨d5, x5, y5⟩ := h18 (q * 12 + p) (by omega)
    obtain ⟨d6, x6, y6⟩ := h18 (q * 12 + t) (by omega)
    obtain ⟨d7, x7, y7⟩ := h19 (q * 12 + p) (by omega)
    obtain ⟨d8, x8, y8⟩ := h19 (q * 12 + t) (by omega)
    have go : ∀ v, v ≤ 30 → wX_atLeast_5 post (nI p) (nI t) f0 h0 a1 a2 a3 a4 a5 a6 a7 a8 a9 a10 a11 a12 a13 a14 a15 a16 a17 a18 a19 a20 a21 a22 n (nI v) (nI (q + 1)) := fun v hv => ih (q + 1) v (by omega) (by omega) hv
    have q71 : ∀ v, v ≤ 30 → wX_atLeast_71 post (wX_atLeast_5 post (nI p) (nI t) f0 h0 a1 a2 a3 a4 a5 a6 a7 a8 a9 a10 a11 a12 a13 a14 a15 a16 a17 a18 a19 a20 a21 a22 n) (nI p) (nI t) (nI q) (nI v) f0 h0 a1 a2 a3 a4 a5 a6 a7 a8 a9 a10 a11 a12 a13 a14 a15 a16 a17 a18 a19 a20 a21 a22 := by
      intro v hv
      unfold wX_atLeast_71
      rw [rs_ix, rs_ix]
      refine ⟨pk_in (q * 12 + p) 36 (by omega), nm_r (rs_rd rfl (by omega) x7) ⟨pk_in (q * 12 + t) 36 (by omega), nm_r (rs_rd rfl (by omega) x8) ?_⟩⟩
      refine pk_le 1000000 d7 (fun _ => nm_r (nI_1 q) (go v hv)) (fun c7 => pk_le 1000000 d8 (fun _ => nm_r (nI_1 q) (go v hv)) (fun c8 => br_c (fun _ => nm_r (nI_1 q) (go v hv)) (fun c => ?_)))
      obtain ⟨w, hw, ew⟩ := rs_diff (by omega) (by omega) hv c
      exact nm_r ew (nm_r (nI_1 q) (go w hw))
    have q70 : wX_atLeast_70 post (wX_atLeast_5 post (nI p) (nI t) f0 h0 a1 a2 a3 a4 a5 a6 a7 a8 a9 a10 a11 a12 a13 a14 a15 a16 a17 a18 a19 a20 a21 a22 n) (nI p) (nI t) (nI v) (nI q) f0 h0 a1 a2 a3 a4 a5 a6 a7 a8 a9 a10 a11 a12 a13 a14 a15 a16 a17 a18 a19 a20 a21 a22 := by
      unfold wX_atLeast_70
      exact q71 v hv
    rw [rs_ix, rs_ix]
    refine ⟨pk_in (q * 12 + p) 36 (by omega), nm_r (rs_rd rfl (by omega) x5) ⟨pk_in (q * 12 + t) 36 (by omega), nm_r (rs_rd rfl (by omega) x6) ?_⟩⟩
    refine pk_le 1000000 d5 (fun _ => q70) (fun c5 => pk_le 1000000 d6 (fun _ => q70) (fun c6 => br_c (fun _ => q70) (fun c => ?_)))
    obtain ⟨w, hw, ew⟩ := rs_diff (by omega) (by omega) hv c
    rw [ew]
    exact q71 w hw
theorem rs_atLeast {post : Int32 → Prop} {p t : Nat} (h18 : ∀ j, j < 36 → rs_L (a18 j)) (h19 : ∀ j, j < 36 → rs_L (a19 j)) (hp : p < 12) (ht : t < 12) (H : ∀ v, v ≤ 30 → post (nI v)) : wpX_atLeast post (f0, h0, a1, a2, a3, a4, a5, a6, a7, a8, a9, a10, a11, a12, a13, a14, a15, a16, a17, a18, a19, a20, a21, a22) (nI p) (nI t) := by
  unfold wpX_atLeast
  exact ⟨4, rs_al5 h18 h19 hp ht H 4 0 0 (by omega) (by omega) (by omega)⟩
/-! nearestToGoal -/
theorem rs_ng8 {post : Int32 → Prop} {t : Nat} {F : Nat → Nat} (h18 : ∀ j, j < 36 → rs_L (a18 j)) (h19 : ∀ j, j < 36 → rs_L (a19 j)) (ht : t < 12) (h7 : ∀ p, p < 12 → a7 p = nI (F p)) (hF : ∀ p, p < 12 → F p ≤ 30 ∨ F p = 1000000)
    (H0 : (∀ p, p < 12 → a8 p = 0 → 1000000 ≤ F p) → post (-1)) (H1 : ∀ u, u < 12 → a8 u = 0 → F u < 1000000 → post (nI u)) :
    ∀ (n i : Nat) (x : Int32) (c : Nat), i ≤ 12 → 12 - i < n → c ≤ 1000000 → ((x = -1 ∧ c = 1000000 ∧ ∀ p, p < i → a8 p = 0 → 1000000 ≤ F p) ∨ (∃ u, u < 12 ∧ x = nI u ∧ a8 u = 0 ∧ F u < 1000000)) → wX_nearestToGoal_8 post (nI t) f0 h0 a1 a2 a3 a4 a5 a6 a7 a8 a9 a10 a11 a12 a13 a14 a15 a16 a17 a18 a19 a20 a21 a22 n x (nI c) (nI i) := by
  intro n
  induction n with
  | zero => intro i x c hi hn; exact absurd hn (by omega)
  | succ n ih =>
    intro i x c hi hn hc hI
    refine pk_le 12 i (fun z => ?_) (fun z => ⟨pk_in i 12 z, ?_⟩)
    · rcases hI with ⟨e, _, h⟩ | ⟨u, hu, e, h8, hf⟩
      · rw [e]; exact H0 (fun p hp => h p (by omega))
      · rw [e]; exact H1 u hu h8 hf
    · have hb := hF i z
      have w1 : i + 1 ≤ 12 := z
      have w2 : 12 - (i + 1) < n := by clear hI; omega
      have q57 : ∀ w, w ≤ 1000000 → ((a8 i = 0 ∧ F i < 1000000 ∧ w < 1000000) ∨ ((a8 i = 0 → 1000000 ≤ F i) ∧ w = 1000000)) → wX_nearestToGoal_57 post (wX_nearestToGoal_8 post (nI t) f0 h0 a1 a2 a3 a4 a5 a6 a7 a8 a9 a10 a11 a12 a13 a14 a15 a16 a17 a18 a19 a20 a21 a22 n) (nI t) x (nI c) (nI i) (nI w) f0 h0 a1 a2 a3 a4 a5 a6 a7 a8 a9 a10 a11 a12 a13 a14 a15 a16 a17 a18 a19 a20 a21 a22 := by
        intro w hw hcase
        unfold wX_nearestToGoal_57 wX_nearestToGoal_71
        refine pk_le c w (fun c1 => pk_le c w (fun _ => nm_r (nI_1 i) (ih (i + 1) x c w1 w2 hc ?_)) (fun z => absurd z (by omega))) (fun c1 => pk_le c w (fun z => absurd z (by omega)) (fun _ => nm_r (nI_1 i) (ih (i + 1) (nI i) w w1 w2 hw ?_)))
        · rcases hI with ⟨e, e2, h⟩ | h
          · refine Or.inl ⟨e, e2, fun p hp hq => ?_⟩
            by_cases e' : p = i
            · rw [e'] at hq ⊢
              rcases hcase with ⟨_, _, y3⟩ | ⟨y1, _⟩
              · exact absurd c1 (by omega)
              · exact y1 hq
            · exact h p (by omega) hq
          · exact Or.inr h
        · rcases hcase with ⟨y1, y2, _⟩ | ⟨_, y2⟩
          · exact Or.inr ⟨i, z, rfl, y1, y2⟩
          · exact absurd c1 (by omega)
      have q37 : (a8 i = 0 → 1000000 ≤ F i) → wX_nearestToGoal_37 post (wX_nearestToGoal_8 post (nI t) f0 h0 a1 a2 a3 a4 a5 a6 a7 a8 a9 a10 a11 a12 a13 a14 a15 a16 a17 a18 a19 a20 a21 a22 n) (nI t) x (nI c) (nI i) f0 h0 a1 a2 a3 a4 a5 a6 a7 a8 a9 a10 a11 a12 a13 a14 a15 a16 a17 a18 a19 a20 a21 a22 := by
        intro h
        unfold wX_nearestToGoal_37
        exact q57 1000000 (Nat.le_refl _) (Or.inr ⟨h, rfl⟩)
      rw [nI_clamp (show i < 2 ^ 31 by omega), h7 i z]
      refine br_c (fun c8 => ⟨pk_in i 12 z, pk_lt (F i) 1000000 (fun cF => ⟨pk_in i 12 z, ?_⟩) (fun cF => q37 (fun _ => cF))⟩) (fun c8 => q37 (fun e => absurd e c8))
      refine rs_atLeast h18 h19 z ht (fun v hv => ?_)
      rw [nI_add]
      exact q57 (F i + v) (by omega) (Or.inl ⟨c8, cF, by omega⟩)
theorem rs_openG {post : Int32 → Prop} {E : Nat → Nat} {s t : Nat} (h18 : ∀ j, j < 36 → rs_L (a18 j)) (h19 : ∀ j, j < 36 → rs_L (a19 j)) (hs : s < 12) (ht : t < 12) (hE : ∀ p, p < 12 → E p ≤ 30 ∨ E p = 1000000) (hI : rs_I E s a7 a8) (H : ∀ r, rs_Q E s r a7 a8 → post r) : wpX_nearestToGoal post (f0, h0, a1, a2, a3, a4, a5, a6, a7, a8, a9, a10, a11, a12, a13, a14, a15, a16, a17, a18, a19, a20, a21, a22) (nI t) := by
  have fin : ∀ F : Nat → Nat, (∀ p, p < 12 → a7 p = nI (F p)) → (∀ p, p < 12 → F p ≤ 30 ∨ F p = 1000000) → ((∀ p, p < 12 → a8 p = 0 → 1000000 ≤ F p) → post (-1)) → (∀ u, u < 12 → a8 u = 0 → F u < 1000000 → post (nI u)) → wpX_nearestToGoal post (f0, h0, a1, a2, a3, a4, a5, a6, a7, a8, a9, a10, a11, a12, a13, a14, a15, a16, a17, a18, a19, a20, a21, a22) (nI t) := by
    intro F f1 f2 f3 f4
    unfold wpX_nearestToGoal
    exact ⟨13, rs_ng8 h18 h19 ht f1 f2 f3 f4 13 0 (-1) 1000000 (by omega) (by omega) (by omega) (Or.inl ⟨rfl, rfl, fun p hp => absurd hp (by omega)⟩)⟩
  have hI' := hI
  rcases hI with ⟨i1, i2⟩ | ⟨i1, i2⟩
  · refine fin (rs_e s) i2 (fun p _ => ?_) (fun h => ?_) (fun u hu hy hf => ?_)
    · by_cases e : p = s
      · rw [e, rs_e0]; omega
      · rw [rs_eN e]; omega
    · have := h s hs i1
      rw [rs_e0] at this
      exact absurd this (by omega)
    · have e : u = s := by
        by_cases e : u = s
        · exact e
        · rw [rs_eN e] at hf; exact absurd hf (by omega)
      exact H _ (Or.inr ⟨u, rfl, ⟨hu, hy, Or.inl ⟨i1, e⟩⟩, hI'⟩)
  · refine fin E i2 hE (fun h => ?_) (fun u hu hy hf => ?_)
    · exact H _ (Or.inl ⟨rfl, i1, i2, h⟩)
    · exact H _ (Or.inr ⟨u, rfl, ⟨hu, hy, Or.inr ⟨i1, hf⟩⟩, hI'⟩)
/-! distanceWithLandmarks -/
theorem rs_dl12 {post : Int32 → St2 → Prop} {s t : Nat} (k : rs_ok g A B l) (h4 : ∀ i, i < 144 → a4 i = nI (rs_R g A B l i)) (h18 : ∀ j, j < 36 → rs_L (a18 j)) (h19 : ∀ j, j < 36 → rs_L (a19 j)) (hs : s < 12) (ht : t < 12)
    (H : ∀ b7 b8 : Nat → Int32, post (nI (rs_D g A B l s t)) (f0, h0, a1, a2, a3, a4, a5, a6, b7, b8, a9, a10, a11, a12, a13, a14, a15, a16, a17, a18, a19, a20, a21, a22)) :
    ∀ (n : Nat) (r : Int32) (b7 b8 : Nat → Int32), rs_cnt b8 12 < n → b8 t = 0 → rs_Q (fun p => rs_D g A B l s p) s r b7 b8 → wX_distanceWithLandmarks_12 post (nI t) n r f0 h0 a1 a2 a3 a4 a5 a6 b7 b8 a9 a10 a11 a12 a13 a14 a15 a16 a17 a18 a19 a20 a21 a22 := by
  intro n
  induction n with
  | zero => intro r b7 b8 hn; exact absurd hn (by omega)
  | succ n ih =>
    intro r b7 b8 hn hbt hQ
    rcases hQ with ⟨e, q1, q2, q3⟩ | ⟨u, e, hO, hI⟩
    · subst e
      refine br_t (by decide) ?_
      unfold wX_distanceWithLandmarks_35
      have hne : ¬ (-1 : Int32) = nI t := by
        intro e
        have hp := nI_pos (n := t) (by omega)
        rw [← e] at hp
        exact hp (by decide)
      refine br_f hne ?_
      have d1 : 1000000 ≤ rs_D g A B l s t := q3 t ht hbt
      have d2 := rs_Dle k s t
      have d3 : rs_D g A B l s t = 1000000 := by omega
      have hh := H b7 b8
      rw [d3] at hh
      exact hh
    · subst e
      have hu := hO.1
      have hc := rs_cnt_upd hu hO.2.1
      refine br_f (nI_pos (by omega)) (pk_eq u t (fun c => ?_) (fun c => ?_))
      · subst c
        unfold wX_distanceWithLandmarks_35
        refine br_t rfl ⟨pk_in u 12 hu, ?_⟩
        have hv : b7 u = nI (rs_D g A B l s u) := by
          rcases hI with ⟨i1, i2⟩ | ⟨i1, i2⟩
          · rcases hO.2.2 with ⟨_, c2⟩ | ⟨c1, _⟩
            · rw [i2 u hu, c2, rs_e0, rs_Ds]
            · exact absurd i1 c1
          · exact i2 u hu
        rw [nI_clamp (show u < 2 ^ 31 by omega), hv]
        exact H b7 b8
      · refine rs_stepF h4 (rs_Rle k) (rs_TF k s) hO hI (fun c7 hc7 => ?_)
        exact rs_openG h18 h19 hs ht (fun p _ => rs_D30 k s p) hc7 (fun r' hr' => ih r' c7 _ (by omega) (by rw [pk_un (fun z => c z.symm)]; exact hbt) hr')
theorem rs_distanceWithLandmarks {post : Int32 → St2 → Prop} {s t : Nat} (k : rs_ok g A B l) (h4 : ∀ i, i < 144 → a4 i = nI (rs_R g A B l i)) (h18 : ∀ j, j < 36 → rs_L (a18 j)) (h19 : ∀ j, j < 36 → rs_L (a19 j)) (hs : s < 12) (ht : t < 12)
    (H : ∀ b7 b8 b9 b10 : Nat → Int32, post (nI (rs_D g A B l s t)) (f0, h0, a1, a2, a3, a4, a5, a6, b7, b8, b9, b10, a11, a12, a13, a14, a15, a16, a17, a18, a19, a20, a21, a22)) : wpX_distanceWithLandmarks post (f0, h0, a1, a2, a3, a4, a5, a6, a7, a8, a9, a10, a11, a12, a13, a14, a15, a16, a17, a18, a19, a20, a21, a22) (nI s) (nI t) := by
  unfold wpX_distanceWithLandmarks
  dsimp only
  refine rs_startBoth hs ht (fun b7 b8 b9 b10 h7 h8 h9 h10 => ?_)
  refine rs_openG h18 h19 hs ht (E := fun p => rs_D g A B l s p) (fun p _ => rs_D30 k s p) (Or.inl ⟨h8 s hs, h7⟩) (fun r hr => ⟨13, ?_⟩)
  exact rs_dl12 k h4 h18 h19 hs ht (fun c7 c8 => H c7 c8 b9 b10) 13 r b7 b8 (by have := rs_cnt_le b8 12; omega) (h8 t ht) hr
end
end
section
def rs_Lb (g A B l : Nat) (T U : Nat → Nat) : Prop := (∀ s h, s < 12 → h < 12 → T (s * 12 + h) = 1000000 ∨ T (s * 12 + h) = rs_D g A B l s h) ∧ (∀ t h, t < 12 → h < 12 → U (t * 12 + h) = 1000000 ∨ U (t * 12 + h) = rs_D g A B l h t)
def rs_LB (g A B l : Nat) (x y : Nat → Int32) : Prop := ∃ T U : Nat → Nat, (∀ i, i < 144 → x i = nI (T i)) ∧ (∀ i, i < 144 → y i = nI (U i)) ∧ rs_Lb g A B l T U ∧ (∀ h, h < 12 → T (h * 12 + h) = 0 ∧ U (h * 12 + h) = 0) ∧ (g = 1 → T (A * 12 + B) = l ∨ U (B * 12 + A) = l)
theorem rs_LbT {g A B l : Nat} {T U : Nat → Nat} (k : rs_ok g A B l) (h : rs_Lb g A B l T U) {s x : Nat} (hs : s < 12) (hx : x < 12) : rs_D g A B l s x ≤ T (s * 12 + x) ∧ T (s * 12 + x) ≤ 1000000 := by
  have d := rs_Dle k s x
  rcases h.1 s x hs hx with e | e <;> omega
theorem rs_LbU {g A B l : Nat} {T U : Nat → Nat} (k : rs_ok g A B l) (h : rs_Lb g A B l T U) {t x : Nat} (ht : t < 12) (hx : x < 12) : rs_D g A B l x t ≤ U (t * 12 + x) ∧ U (t * 12 + x) ≤ 1000000 := by
  have d := rs_Dle k x t
  rcases h.2 t x ht hx with e | e <;> omega
/-- what the labels tell of the road's ends -/
theorem rs_tell {g A B l : Nat} {T U : Nat → Nat} (k : rs_ok g A B l) (h : rs_Lb g A B l T U) (hg : g = 1) {M : Nat} (hM : M ≤ l) (h3 : M = 1000000 ∨ ∃ x, x < 12 ∧ M = T (A * 12 + x) + U (B * 12 + x)) : T (A * 12 + B) = l ∨ U (B * 12 + A) = l := by
  have k' := k
  obtain ⟨kg, kA, kB, kAB, kl, kl2⟩ := k'
  rcases h3 with e | ⟨x, hx, e⟩
  · omega
  · have d1 := rs_LbT k h kA hx
    rcases rs_Dc g A B l A x with c | c | c
    · have d2 := h.2 B x kB hx
      rw [← c.1] at d2 e
      rcases rs_Dc g A B l A B with f | f | f
      · omega
      · omega
      · exact absurd ⟨hg, rfl, rfl⟩ f.2.1
    · have d2 := h.1 A x kA hx
      rw [c.2.2.2.1] at d2 e
      rcases rs_Dc g A B l A B with f | f | f
      · omega
      · omega
      · exact absurd ⟨hg, rfl, rfl⟩ f.2.1
    · omega
theorem rs_up {E : Nat → Nat} {s u : Nat} {x y : Nat → Int32} (h : ¬ y s = 0) (hx : ∀ p, p < 12 → x p = nI (E p)) : rs_I E s x (upd y u 1) := by
  refine Or.inr ⟨?_, hx⟩
  by_cases e : s = u
  · rw [e, pk_us]; decide
  · rw [pk_un e]; exact h
theorem rs_hub : ∀ i, i < 12 → (nI i * 5 + 6) - (nI i * 5 + 6) / 12 * 12 = nI ((i * 5 + 6) % 12) := by decide +kernel
theorem rs_hub2 : ∀ h, h < 12 → ((h * 5 + 6) % 12 * 5 + 6) % 12 = h := by decide +kernel
section
variable {f0 h0 : Int32} {a1 a2 a3 a4 a5 a6 a7 a8 a9 a10 a11 a12 a13 a14 a15 a16 a17 a18 a19 a20 a21 a22 : Nat → Int32}
variable {g A B l : Nat}
theorem rs_bl6 {post : Int32 → Prop} {s t : Nat} {T U : Nat → Nat} (k : rs_ok g A B l) (hs : s < 12) (ht : t < 12) (h15 : ∀ i, i < 144 → a15 i = nI (T i)) (h16 : ∀ i, i < 144 → a16 i = nI (U i)) (hL : rs_Lb g A B l T U)
    (H : ∀ M, M ≤ 1000000 → (∀ h, h < 12 → M ≤ T (s * 12 + h) + U (t * 12 + h)) → (M = 1000000 ∨ ∃ h, h < 12 ∧ M = T (s * 12 + h) + U (t * 12 + h)) → post (nI M)) :
    ∀ n i M : Nat, i ≤ 12 → 12 - i < n → M ≤ 1000000 → (∀ h, h < i → M ≤ T (s * 12 + h) + U (t * 12 + h)) → (M = 1000000 ∨ ∃ h, h < 12 ∧ M = T (s * 12 + h) + U (t * 12 + h)) → wX_distanceByLabels_6 post (nI s) (nI t) f0 h0 a1 a2 a3 a4 a5 a6 a7 a8 a9 a10 a11 a12 a13 a14 a15 a16 a17 a18 a19 a20 a21 a22 n (nI M) (nI i) := by
  intro n
  induction n with
  | zero => intro i M hi hn; exact absurd hn (by omega)
  | succ n ih =>
    intro i M hi hn m1 m2 m3
    refine pk_le 12 i (fun z => H M m1 (fun p hp => m2 p (by omega)) m3) (fun z => ?_)
    have b1 := (rs_LbT k hL hs z).2
    have b2 := (rs_LbU k hL ht z).2
    refine ⟨pk_in (s * 12 + i) 144 (by omega) (rs_ix s i), pk_in (t * 12 + i) 144 (by omega) (rs_ix t i), nm_r (e' := nI (T (s * 12 + i) + U (t * 12 + i))) (by rw [rs_rd (rs_ix s i) (by omega) (h15 _ (by omega)), rs_rd (rs_ix t i) (by omega) (h16 _ (by omega)), nI_add]) ?_⟩
    refine pk_le M (T (s * 12 + i) + U (t * 12 + i)) (fun c => nm_r (nI_1 i) (ih (i + 1) M (by omega) (by omega) m1 (fun p hp => ?_) m3)) (fun c => nm_r (nI_1 i) (ih (i + 1) (T (s * 12 + i) + U (t * 12 + i)) (by omega) (by omega) (by omega) (fun p hp => ?_) (Or.inr ⟨i, z, rfl⟩)))
    · by_cases e : p = i
      · rw [e]; exact c
      · exact m2 p (by omega)
    · by_cases e : p = i
      · rw [e]; exact Nat.le_refl _
      · have := m2 p (by omega)
        omega
theorem rs_byL {post : Int32 → Prop} {s t : Nat} {T U : Nat → Nat} (k : rs_ok g A B l) (hs : s < 12) (ht : t < 12) (h15 : ∀ i, i < 144 → a15 i = nI (T i)) (h16 : ∀ i, i < 144 → a16 i = nI (U i)) (hL : rs_Lb g A B l T U)
    (H : ∀ M, M ≤ 1000000 → (∀ h, h < 12 → M ≤ T (s * 12 + h) + U (t * 12 + h)) → (M = 1000000 ∨ ∃ h, h < 12 ∧ M = T (s * 12 + h) + U (t * 12 + h)) → post (nI M)) : wpX_distanceByLabels post (f0, h0, a1, a2, a3, a4, a5, a6, a7, a8, a9, a10, a11, a12, a13, a14, a15, a16, a17, a18, a19, a20, a21, a22) (nI s) (nI t) := by
  unfold wpX_distanceByLabels
  exact ⟨13, rs_bl6 k hs ht h15 h16 hL H 13 0 1000000 (by omega) (by omega) (by omega) (fun h hh => absurd hh (by omega)) (Or.inl rfl)⟩
theorem rs_distanceByLabels {post : Int32 → Prop} {s t : Nat} (k : rs_ok g A B l) (hs : s < 12) (ht : t < 12) (hB : rs_LB g A B l a15 a16) (H : post (nI (rs_D g A B l s t))) : wpX_distanceByLabels post (f0, h0, a1, a2, a3, a4, a5, a6, a7, a8, a9, a10, a11, a12, a13, a14, a15, a16, a17, a18, a19, a20, a21, a22) (nI s) (nI t) := by
  obtain ⟨T, U, h15, h16, hL, hd, hr⟩ := hB
  have k' := k
  obtain ⟨kg, kA, kB, kAB, kl, kl2⟩ := k'
  refine rs_byL k hs ht h15 h16 hL (fun M m1 m2 m3 => ?_)
  have lo : rs_D g A B l s t ≤ M := by
    have d := rs_Dle k s t
    rcases m3 with e | ⟨h, hh, e⟩
    · omega
    · have d1 := (rs_LbT k hL hs hh).1
      have d2 := (rs_LbU k hL ht hh).1
      have d3 := rs_tri k s h t
      omega
  have hi : M ≤ rs_D g A B l s t := by
    rcases rs_Dc g A B l s t with c | c | c
    · have d1 := hd s hs
      have d2 := m2 s hs
      rw [← c.1] at d2
      omega
    · obtain ⟨_, cg, cs, ct, cD⟩ := c
      rw [cs, ct] at m2
      rcases hr cg with e | e
      · have d1 := m2 B kB
        have d2 := (hd B kB).2
        omega
      · have d1 := m2 A kA
        have d2 := (hd A kA).1
        omega
    · omega
  rw [show M = rs_D g A B l s t by omega]
  exact H
/-! labelFrom -/
theorem rs_lF11 {post : St2 → Prop} {h : Nat} {T U : Nat → Nat} (k : rs_ok g A B l) (hh : h < 12) (h4 : ∀ i, i < 144 → a4 i = nI (rs_R g A B l i)) (h15 : ∀ i, i < 144 → a15 i = nI (T i)) (hTh : T (h * 12 + h) = 1000000)
    (H : ∀ (b7 b8 b16 : Nat → Int32) (V : Nat → Nat), (∀ i, i < 144 → b16 i = nI (V i)) → rs_Lb g A B l T V → (∀ x, x < 12 → x ≠ h → V (x * 12 + x) = U (x * 12 + x)) → (g = 1 → U (B * 12 + A) = l → V (B * 12 + A) = l) → V (h * 12 + h) = 0 → (g = 1 → h = A → T (A * 12 + B) = l ∨ V (B * 12 + A) = l) → post (f0, h0, a1, a2, a3, a4, a5, a6, b7, b8, a9, a10, a11, a12, a13, a14, a15, b16, a17, a18, a19, a20, a21, a22)) :
    ∀ (n : Nat) (r : Int32) (b7 b8 b16 : Nat → Int32) (V : Nat → Nat), rs_cnt b8 12 < n → (∀ i, i < 144 → b16 i = nI (V i)) → rs_Lb g A B l T V → (∀ x, x < 12 → x ≠ h → V (x * 12 + x) = U (x * 12 + x)) → (g = 1 → U (B * 12 + A) = l → V (B * 12 + A) = l) → (¬ b8 h = 0 → V (h * 12 + h) = 0) → (g = 1 → h = A → ¬ b8 B = 0 → T (A * 12 + B) = l ∨ V (B * 12 + A) = l) →
      rs_Q (fun p => rs_D g A B l h p) h r b7 b8 → wX_labelFrom_11 post (nI h) n r f0 h0 a1 a2 a3 a4 a5 a6 b7 b8 a9 a10 a11 a12 a13 a14 a15 b16 a17 a18 a19 a20 a21 a22 := by
  have k' := k
  obtain ⟨kg, kA, kB, kAB, kl, kl2⟩ := k'
  intro n
  induction n with
  | zero => intro r b7 b8 b16 V hn; exact absurd hn (by omega)
  | succ n ih =>
    intro r b7 b8 b16 V hn hV hL v1 v2 v3 v4 hQ
    rcases hQ with ⟨e, q1, q2, q3⟩ | ⟨u, e, hO, hI⟩
    · subst e
      refine br_t (by decide) (H b7 b8 b16 V hV hL v1 v2 (v3 q1) (fun g1 hA => v4 g1 hA (fun c => ?_)))
      have d : 1000000 ≤ rs_D g A B l h B := q3 B kB c
      rcases rs_Dc g A B l h B with f | f | f
      · omega
      · omega
      · exact absurd ⟨g1, hA, rfl⟩ f.2.1
    · subst e
      have hu := hO.1
      refine br_f (nI_pos (by omega)) ?_
      refine rs_byL k hh hu h15 hV hL (fun M m1 m2 m3 => ?_)
      refine ⟨pk_in u 12 hu, ?_⟩
      have next : ∀ (c7 c8 c16 : Nat → Int32) (W : Nat → Nat), rs_cnt (upd c8 u 1) 12 < rs_cnt b8 12 → (∀ i, i < 144 → c16 i = nI (W i)) → rs_Lb g A B l T W → (∀ x, x < 12 → x ≠ h → W (x * 12 + x) = U (x * 12 + x)) → (g = 1 → U (B * 12 + A) = l → W (B * 12 + A) = l) → (¬ upd c8 u 1 h = 0 → W (h * 12 + h) = 0) → (g = 1 → h = A → ¬ upd c8 u 1 B = 0 → T (A * 12 + B) = l ∨ W (B * 12 + A) = l) → rs_I (fun p => rs_D g A B l h p) h c7 (upd c8 u 1) → wX_labelFrom_52 post (wX_labelFrom_11 post (nI h) n) (nI h) (nI u) f0 h0 a1 a2 a3 a4 a5 a6 c7 c8 a9 a10 a11 a12 a13 a14 a15 c16 a17 a18 a19 a20 a21 a22 := by
        intro c7 c8 c16 W w0 w1 w2 w3 w4 w5 w6 w7
        unfold wX_labelFrom_52
        refine ⟨pk_in u 12 hu, nm_r (e' := upd c8 u 1) (by rw [nI_clamp (by omega)]) ?_⟩
        exact rs_openF hh (fun p _ => rs_Dle k h p) w7 (fun r' hr' => ih r' c7 _ c16 W (by omega) w1 w2 w3 w4 w5 w6 hr')
      have hcu := rs_cnt_upd hu hO.2.1
      have hcu2 := rs_cnt_upd2 hu hO.2.1
      rw [rs_ix, nI_clamp (show u < 2 ^ 31 by omega), nI_clamp (show u * 12 + h < 2 ^ 31 by omega)]
      have hO' := hO
      have hI' := hI
      rcases hO'.2.2 with ⟨o1, o2⟩ | ⟨o1, o2⟩
      · -- the hub itself
        rcases hI' with ⟨i1, i2⟩ | ⟨i1, i2⟩
        · have e0 : b7 u = nI 0 := by rw [i2 u hu, o2, rs_e0]
          have hM : 0 < M := by
            rcases m3 with e | ⟨x, hx, e⟩
            · omega
            · by_cases ex : x = h
              · rw [ex, hTh] at e; omega
              · have d := (rs_LbT k hL hh hx).1
                rcases rs_Dc g A B l h x with f | f | f <;> omega
          rw [e0]
          refine pk_le M 0 (fun c => absurd c (by omega)) (fun _ => ⟨pk_in u 12 hu, pk_in (u * 12 + h) 144 (by omega), nm_e ?_⟩)
          refine rs_stepF h4 (rs_Rle k) (rs_TF k h) hO hI (fun c7 hc7 => ?_)
          refine next c7 (upd b8 u 1) _ (fun i => if i = u * 12 + h then 0 else V i) (by omega) (rs_put (P := fun p x => x = nI (if p = u * 12 + h then 0 else V p)) (fun p hp hq => by rw [if_neg hq]; exact hV p hp) (fun _ => by rw [if_pos rfl])) ⟨hL.1, fun t x ht hx => ?_⟩ (fun x hx hxh => ?_) (fun g1 e => ?_) (fun _ => ?_) (fun g1 hA c => ?_) ?_
          · show (if t * 12 + x = u * 12 + h then 0 else V (t * 12 + x)) = 1000000 ∨ (if t * 12 + x = u * 12 + h then 0 else V (t * 12 + x)) = rs_D g A B l x t
            by_cases c : t * 12 + x = u * 12 + h
            · rw [if_pos c, show x = h by omega, show t = h by omega, rs_Ds]
              exact Or.inr rfl
            · rw [if_neg c]
              exact hL.2 t x ht hx
          · show (if x * 12 + x = u * 12 + h then 0 else V (x * 12 + x)) = U (x * 12 + x)
            rw [if_neg (by omega)]
            exact v1 x hx hxh
          · show (if B * 12 + A = u * 12 + h then 0 else V (B * 12 + A)) = l
            rw [if_neg (by omega)]
            exact v2 g1 e
          · show (if h * 12 + h = u * 12 + h then 0 else V (h * 12 + h)) = 0
            rw [if_pos (by omega)]
          · show T (A * 12 + B) = l ∨ (if B * 12 + A = u * 12 + h then 0 else V (B * 12 + A)) = l
            rw [if_neg (by omega)]
            rw [pk_un (by omega), pk_un (by omega)] at c
            exact v4 g1 hA c
          · rcases hc7 with ⟨j1, _⟩ | ⟨j1, j2⟩
            · rw [o2, pk_us] at j1
              exact absurd j1 (by decide)
            · exact rs_up j1 j2
        · exact absurd o1 i1
      · -- the road's other end
        rcases hI' with ⟨i1, i2⟩ | ⟨i1, i2⟩
        · exact absurd i1 o1
        · have o3 : rs_D g A B l h u < 1000000 := o2
          have hne : h ≠ u := fun c => o1 (by rw [c]; exact hO.2.1)
          have hc : g = 1 ∧ h = A ∧ u = B ∧ rs_D g A B l h u = l := by
            rcases rs_Dc g A B l h u with f | f | f
            · exact absurd f.1 hne
            · exact f.2
            · omega
          obtain ⟨g1, eA, eB, eD⟩ := hc
          have e0 : b7 u = nI l := by rw [i2 u hu]; show nI (rs_D g A B l h u) = nI l; rw [eD]
          rw [e0]
          refine pk_le M l (fun c => ?_) (fun c => ⟨pk_in u 12 hu, pk_in (u * 12 + h) 144 (by omega), nm_e ?_⟩)
          · rw [eA, eB] at m3
            exact next b7 b8 b16 V hcu hV hL v1 v2 (fun _ => v3 i1) (fun _ _ _ => rs_tell k hL g1 c m3) (rs_up i1 i2)
          · refine rs_stepF h4 (rs_Rle k) (rs_TF k h) hO hI (fun c7 hc7 => ?_)
            refine next c7 (upd b8 u 1) _ (fun i => if i = u * 12 + h then l else V i) (by omega) (rs_put (P := fun p x => x = nI (if p = u * 12 + h then l else V p)) (fun p hp hq => by rw [if_neg hq]; exact hV p hp) (fun _ => by rw [if_pos rfl])) ⟨hL.1, fun t x ht hx => ?_⟩ (fun x hx hxh => ?_) (fun _ _ => ?_) (fun _ => ?_) (fun _ _ _ => ?_) ?_
            · show (if t * 12 + x = u * 12 + h then l else V (t * 12 + x)) = 1000000 ∨ (if t * 12 + x = u * 12 + h then l else V (t * 12 + x)) = rs_D g A B l x t
              by_cases c : t * 12 + x = u * 12 + h
              · rw [if_pos c, show x = h by omega, show t = u by omega, eD]
                exact Or.inr rfl
              · rw [if_neg c]
                exact hL.2 t x ht hx
            · show (if x * 12 + x = u * 12 + h then l else V (x * 12 + x)) = U (x * 12 + x)
              rw [if_neg (by omega)]
              exact v1 x hx hxh
            · show (if B * 12 + A = u * 12 + h then l else V (B * 12 + A)) = l
              rw [if_pos (by omega)]
            · show (if h * 12 + h = u * 12 + h then l else V (h * 12 + h)) = 0
              rw [if_neg (by omega)]
              exact v3 i1
            · refine Or.inr ?_
              show (if B * 12 + A = u * 12 + h then l else V (B * 12 + A)) = l
              rw [if_pos (by omega)]
            · rcases hc7 with ⟨j1, _⟩ | ⟨j1, j2⟩
              · rw [pk_un hne] at j1
                exact absurd j1 i1
              · exact rs_up j1 j2
theorem rs_labelFrom {post : St2 → Prop} {h : Nat} {T U : Nat → Nat} (k : rs_ok g A B l) (hh : h < 12) (h4 : ∀ i, i < 144 → a4 i = nI (rs_R g A B l i)) (h15 : ∀ i, i < 144 → a15 i = nI (T i)) (h16 : ∀ i, i < 144 → a16 i = nI (U i)) (hL : rs_Lb g A B l T U) (hTh : T (h * 12 + h) = 1000000)
    (H : ∀ (b7 b8 b9 b10 b16 : Nat → Int32) (V : Nat → Nat), (∀ i, i < 144 → b16 i = nI (V i)) → rs_Lb g A B l T V → (∀ x, x < 12 → x ≠ h → V (x * 12 + x) = U (x * 12 + x)) → (g = 1 → U (B * 12 + A) = l → V (B * 12 + A) = l) → V (h * 12 + h) = 0 → (g = 1 → h = A → T (A * 12 + B) = l ∨ V (B * 12 + A) = l) → post (f0, h0, a1, a2, a3, a4, a5, a6, b7, b8, b9, b10, a11, a12, a13, a14, a15, b16, a17, a18, a19, a20, a21, a22)) : wpX_labelFrom post (f0, h0, a1, a2, a3, a4, a5, a6, a7, a8, a9, a10, a11, a12, a13, a14, a15, a16, a17, a18, a19, a20, a21, a22) (nI h) := by
  unfold wpX_labelFrom
  dsimp only
  refine rs_startBoth hh hh (fun b7 b8 b9 b10 h7 h8 h9 h10 => ?_)
  refine rs_openF hh (E := fun p => rs_D g A B l h p) (fun p _ => rs_Dle k h p) (Or.inl ⟨h8 h hh, h7⟩) (fun r hr => ⟨13, ?_⟩)
  exact rs_lF11 k hh h4 h15 hTh (fun c7 c8 c16 V x1 x2 x3 x4 x5 x6 => H c7 c8 b9 b10 c16 V x1 x2 x3 x4 x5 x6) 13 r b7 b8 a16 U (by have := rs_cnt_le b8 12; omega) h16 hL (fun _ _ _ => rfl) (fun _ e => e) (fun c => absurd (h8 h hh) c) (fun _ _ c => absurd (h8 B k.2.2.1) c) hr
/-! labelTo -/
theorem rs_lT11 {post : St2 → Prop} {h : Nat} {T U : Nat → Nat} (k : rs_ok g A B l) (hh : h < 12) (h4 : ∀ i, i < 144 → a4 i = nI (rs_R g A B l i)) (h16 : ∀ i, i < 144 → a16 i = nI (U i))
    (H : ∀ (b9 b10 b15 : Nat → Int32) (V : Nat → Nat), (∀ i, i < 144 → b15 i = nI (V i)) → rs_Lb g A B l V U → (∀ x, x < 12 → x ≠ h → V (x * 12 + x) = T (x * 12 + x)) → (g = 1 → T (A * 12 + B) = l → V (A * 12 + B) = l) → V (h * 12 + h) = 0 → post (f0, h0, a1, a2, a3, a4, a5, a6, a7, a8, b9, b10, a11, a12, a13, a14, b15, a16, a17, a18, a19, a20, a21, a22)) :
    ∀ (n : Nat) (r : Int32) (b9 b10 b15 : Nat → Int32) (V : Nat → Nat), rs_cnt b10 12 < n → (∀ i, i < 144 → b15 i = nI (V i)) → rs_Lb g A B l V U → (∀ x, x < 12 → x ≠ h → V (x * 12 + x) = T (x * 12 + x)) → (g = 1 → T (A * 12 + B) = l → V (A * 12 + B) = l) → (b10 h = 0 → V (h * 12 + h) = 1000000) → (¬ b10 h = 0 → V (h * 12 + h) = 0) →
      rs_Q (fun p => rs_D g A B l p h) h r b9 b10 → wX_labelTo_11 post (nI h) n r f0 h0 a1 a2 a3 a4 a5 a6 a7 a8 b9 b10 a11 a12 a13 a14 b15 a16 a17 a18 a19 a20 a21 a22 := by
  have k' := k
  obtain ⟨kg, kA, kB, kAB, kl, kl2⟩ := k'
  intro n
  induction n with
  | zero => intro r b9 b10 b15 V hn; exact absurd hn (by omega)
  | succ n ih =>
    intro r b9 b10 b15 V hn hV hL v1 v2 v3 v4 hQ
    rcases hQ with ⟨e, q1, q2, q3⟩ | ⟨u, e, hO, hI⟩
    · subst e
      exact br_t (by decide) (H b9 b10 b15 V hV hL v1 v2 (v4 q1))
    · subst e
      have hu := hO.1
      refine br_f (nI_pos (by omega)) ?_
      refine rs_byL k hu hh hV h16 hL (fun M m1 m2 m3 => ?_)
      refine ⟨pk_in u 12 hu, ?_⟩
      have next : ∀ (c9 c10 c15 : Nat → Int32) (W : Nat → Nat), rs_cnt (upd c10 u 1) 12 < rs_cnt b10 12 → (∀ i, i < 144 → c15 i = nI (W i)) → rs_Lb g A B l W U → (∀ x, x < 12 → x ≠ h → W (x * 12 + x) = T (x * 12 + x)) → (g = 1 → T (A * 12 + B) = l → W (A * 12 + B) = l) → (upd c10 u 1 h = 0 → W (h * 12 + h) = 1000000) → (¬ upd c10 u 1 h = 0 → W (h * 12 + h) = 0) → rs_I (fun p => rs_D g A B l p h) h c9 (upd c10 u 1) → wX_labelTo_52 post (wX_labelTo_11 post (nI h) n) (nI h) (nI u) f0 h0 a1 a2 a3 a4 a5 a6 a7 a8 c9 c10 a11 a12 a13 a14 c15 a16 a17 a18 a19 a20 a21 a22 := by
        intro c9 c10 c15 W w0 w1 w2 w3 w4 w5 w6 w7
        unfold wX_labelTo_52
        refine ⟨pk_in u 12 hu, nm_r (e' := upd c10 u 1) (by rw [nI_clamp (by omega)]) ?_⟩
        exact rs_openB hh (fun p _ => rs_Dle k p h) w7 (fun r' hr' => ih r' c9 _ c15 W (by omega) w1 w2 w3 w4 w5 w6 hr')
      have hcu := rs_cnt_upd hu hO.2.1
      have hcu2 := rs_cnt_upd2 hu hO.2.1
      rw [rs_ix, nI_clamp (show u < 2 ^ 31 by omega), nI_clamp (show u * 12 + h < 2 ^ 31 by omega)]
      have hO' := hO
      have hI' := hI
      rcases hO'.2.2 with ⟨o1, o2⟩ | ⟨o1, o2⟩
      · rcases hI' with ⟨i1, i2⟩ | ⟨i1, i2⟩
        · have e0 : b9 u = nI 0 := by rw [i2 u hu, o2, rs_e0]
          have hTh := v3 i1
          have hM : 0 < M := by
            rcases m3 with e | ⟨x, hx, e⟩
            · omega
            · by_cases ex : x = h
              · rw [ex, o2, hTh] at e; omega
              · have d := (rs_LbT k hL hu hx).1
                rcases rs_Dc g A B l u x with f | f | f <;> omega
          rw [e0]
          refine pk_le M 0 (fun c => absurd c (by omega)) (fun _ => ⟨pk_in u 12 hu, pk_in (u * 12 + h) 144 (by omega), nm_e ?_⟩)
          refine rs_stepB h4 (rs_Rle k) (rs_TB k hh) hO hI (fun c9 hc9 => ?_)
          refine next c9 (upd b10 u 1) _ (fun i => if i = u * 12 + h then 0 else V i) (by omega) (rs_put (P := fun p x => x = nI (if p = u * 12 + h then 0 else V p)) (fun p hp hq => by rw [if_neg hq]; exact hV p hp) (fun _ => by rw [if_pos rfl])) ⟨fun t x ht hx => ?_, hL.2⟩ (fun x hx hxh => ?_) (fun g1 e => ?_) (fun c => ?_) (fun _ => ?_) ?_
          · show (if t * 12 + x = u * 12 + h then 0 else V (t * 12 + x)) = 1000000 ∨ (if t * 12 + x = u * 12 + h then 0 else V (t * 12 + x)) = rs_D g A B l t x
            by_cases c : t * 12 + x = u * 12 + h
            · rw [if_pos c, show x = h by omega, show t = h by omega, rs_Ds]
              exact Or.inr rfl
            · rw [if_neg c]
              exact hL.1 t x ht hx
          · show (if x * 12 + x = u * 12 + h then 0 else V (x * 12 + x)) = T (x * 12 + x)
            rw [if_neg (by omega)]
            exact v1 x hx hxh
          · show (if A * 12 + B = u * 12 + h then 0 else V (A * 12 + B)) = l
            rw [if_neg (by omega)]
            exact v2 g1 e
          · rw [o2, pk_us] at c
            exact absurd c (by decide)
          · show (if h * 12 + h = u * 12 + h then 0 else V (h * 12 + h)) = 0
            rw [if_pos (by omega)]
          · rcases hc9 with ⟨j1, _⟩ | ⟨j1, j2⟩
            · rw [o2, pk_us] at j1
              exact absurd j1 (by decide)
            · exact rs_up j1 j2
        · exact absurd o1 i1
      · rcases hI' with ⟨i1, i2⟩ | ⟨i1, i2⟩
        · exact absurd i1 o1
        · have o3 : rs_D g A B l u h < 1000000 := o2
          have hne : h ≠ u := fun c => o1 (by rw [c]; exact hO.2.1)
          have hc : g = 1 ∧ u = A ∧ h = B ∧ rs_D g A B l u h = l := by
            rcases rs_Dc g A B l u h with f | f | f
            · exact absurd f.1.symm hne
            · exact f.2
            · omega
          obtain ⟨g1, eA, eB, eD⟩ := hc
          have e0 : b9 u = nI l := by rw [i2 u hu]; show nI (rs_D g A B l u h) = nI l; rw [eD]
          rw [e0]
          refine pk_le M l (fun c => ?_) (fun c => ⟨pk_in u 12 hu, pk_in (u * 12 + h) 144 (by omega), nm_e ?_⟩)
          · exact next b9 b10 b15 V hcu hV hL v1 v2 (fun c => by rw [pk_un hne] at c; exact absurd c i1) (fun _ => v4 i1) (rs_up i1 i2)
          · refine rs_stepB h4 (rs_Rle k) (rs_TB k hh) hO hI (fun c9 hc9 => ?_)
            refine next c9 (upd b10 u 1) _ (fun i => if i = u * 12 + h then l else V i) (by omega) (rs_put (P := fun p x => x = nI (if p = u * 12 + h then l else V p)) (fun p hp hq => by rw [if_neg hq]; exact hV p hp) (fun _ => by rw [if_pos rfl])) ⟨fun t x ht hx => ?_, hL.2⟩ (fun x hx hxh => ?_) (fun _ _ => ?_) (fun c => ?_) (fun _ => ?_) ?_
            · show (if t * 12 + x = u * 12 + h then l else V (t * 12 + x)) = 1000000 ∨ (if t * 12 + x = u * 12 + h then l else V (t * 12 + x)) = rs_D g A B l t x
              by_cases c : t * 12 + x = u * 12 + h
              · rw [if_pos c, show x = h by omega, show t = u by omega, eD]
                exact Or.inr rfl
              · rw [if_neg c]
                exact hL.1 t x ht hx
            · show (if x * 12 + x = u * 12 + h then l else V (x * 12 + x)) = T (x * 12 + x)
              rw [if_neg (by omega)]
              exact v1 x hx hxh
            · show (if A * 12 + B = u * 12 + h then l else V (A * 12 + B)) = l
              rw [if_pos (by omega)]
            · rw [pk_un hne, pk_un hne] at c
              exact absurd c i1
            · show (if h * 12 + h = u * 12 + h then l else V (h * 12 + h)) = 0
              rw [if_neg (by omega)]
              exact v4 i1
            · rcases hc9 with ⟨j1, _⟩ | ⟨j1, j2⟩
              · rw [pk_un hne] at j1
                exact absurd j1 i1
              · exact rs_up j1 j2
theorem rs_labelTo {post : St2 → Prop} {h : Nat} {T U : Nat → Nat} (k : rs_ok g A B l) (hh : h < 12) (h4 : ∀ i, i < 144 → a4 i = nI (rs_R g A B l i)) (h15 : ∀ i, i < 144 → a15 i = nI (T i)) (h16 : ∀ i, i < 144 → a16 i = nI (U i)) (hL : rs_Lb g A B l T U) (hTh : T (h * 12 + h) = 1000000)
    (H : ∀ (b7 b8 b9 b10 b15 : Nat → Int32) (V : Nat → Nat), (∀ i, i < 144 → b15 i = nI (V i)) → rs_Lb g A B l V U → (∀ x, x < 12 → x ≠ h → V (x * 12 + x) = T (x * 12 + x)) → (g = 1 → T (A * 12 + B) = l → V (A * 12 + B) = l) → V (h * 12 + h) = 0 → post (f0, h0, a1, a2, a3, a4, a5, a6, b7, b8, b9, b10, a11, a12, a13, a14, b15, a16, a17, a18, a19, a20, a21, a22)) : wpX_labelTo post (f0, h0, a1, a2, a3, a4, a5, a6, a7, a8, a9, a10, a11, a12, a13, a14, a15, a16, a17, a18, a19, a20, a21, a22) (nI h) := by
  unfold wpX_labelTo
  dsimp only
  refine rs_startBoth hh hh (fun b7 b8 b9 b10 h7 h8 h9 h10 => ?_)
  refine rs_openB hh (E := fun p => rs_D g A B l p h) (fun p _ => rs_Dle k p h) (Or.inl ⟨h10 h hh, h9⟩) (fun r hr => ⟨13, ?_⟩)
  exact rs_lT11 (T := T) k hh h4 h16 (fun c9 c10 c15 V x1 x2 x3 x4 x5 => H b7 b8 c9 c10 c15 V x1 x2 x3 x4 x5) 13 r b9 b10 a15 T (by have := rs_cnt_le b10 12; omega) h15 hL (fun _ _ _ => rfl) (fun _ e => e) (fun _ => hTh) (fun c => absurd (h10 h hh) c) hr
/-! layLabels -/
theorem rs_la33 {post : St2 → Prop} (k : rs_ok g A B l) (h4 : ∀ i, i < 144 → a4 i = nI (rs_R g A B l i))
    (H : ∀ b7 b8 b9 b10 b15 b16 : Nat → Int32, rs_LB g A B l b15 b16 → post (f0, h0, a1, a2, a3, a4, a5, a6, b7, b8, b9, b10, a11, a12, a13, a14, b15, b16, a17, a18, a19, a20, a21, a22)) :
    ∀ (n i : Nat) (b7 b8 b9 b10 b15 b16 : Nat → Int32) (T U : Nat → Nat), i ≤ 12 → 12 - i < n → (∀ j, j < 144 → b15 j = nI (T j)) → (∀ j, j < 144 → b16 j = nI (U j)) → rs_Lb g A B l T U →
      (∀ j x, j < i → x = (j * 5 + 6) % 12 → T (x * 12 + x) = 0 ∧ U (x * 12 + x) = 0) → (∀ j x, i ≤ j → j < 12 → x = (j * 5 + 6) % 12 → T (x * 12 + x) = 1000000) → (∀ j, j < i → g = 1 → (j * 5 + 6) % 12 = A → T (A * 12 + B) = l ∨ U (B * 12 + A) = l) →
      wX_layLabels_33 post n (nI i) f0 h0 a1 a2 a3 a4 a5 a6 b7 b8 b9 b10 a11 a12 a13 a14 b15 b16 a17 a18 a19 a20 a21 a22 := by
  intro n
  induction n with
  | zero => intro i b7 b8 b9 b10 b15 b16 T U hi hn; exact absurd hn (by omega)
  | succ n ih =>
    intro i b7 b8 b9 b10 b15 b16 T U hi hn h15 h16 hL t1 t2 t3
    refine pk_le 12 i (fun z => H b7 b8 b9 b10 b15 b16 ⟨T, U, h15, h16, hL, fun h hh => ?_, fun g1 => ?_⟩) (fun z => ?_)
    · exact t1 ((h * 5 + 6) % 12) h (by omega) (rs_hub2 h hh).symm
    · exact t3 ((A * 5 + 6) % 12) (by omega) g1 (rs_hub2 A k.2.1)
    · refine ⟨by decide, nm_r (rs_hub i z) ?_⟩
      have hTh := t2 i ((i * 5 + 6) % 12) (Nat.le_refl i) z rfl
      have hne : ∀ j, j < 12 → j ≠ i → (j * 5 + 6) % 12 ≠ (i * 5 + 6) % 12 := by intro j hj hji; omega
      have hh : (i * 5 + 6) % 12 < 12 := by omega
      generalize ehub : (i * 5 + 6) % 12 = h at hTh hne hh ⊢
      refine rs_labelFrom k hh h4 h15 h16 hL hTh (fun c7 c8 c9 c10 c16 V x1 x2 x3 x4 x5 x6 => ?_)
      refine rs_labelTo k hh h4 h15 x1 x2 hTh (fun d7 d8 d9 d10 d15 W y1 y2 y3 y4 y5 => ?_)
      rw [rs_ix, nI_clamp (show h * 12 + h < 2 ^ 31 by omega)]
      refine ⟨pk_in (h * 12 + h) 144 (by omega), nm_e ⟨pk_in (h * 12 + h) 144 (by omega), nm_e (nm_r (nI_1 i) ?_)⟩⟩
      refine ih (i + 1) _ _ _ _ _ _ W V (by omega) (by omega) (rs_put (P := fun p x => x = nI (W p)) (fun p hp _ => y1 p hp) (fun _ => by rw [y5]; rfl)) (rs_put (P := fun p x => x = nI (V p)) (fun p hp _ => x1 p hp) (fun _ => by rw [x5]; rfl)) y2 (fun j x hj ex => ?_) (fun j x hj hj2 ex => ?_) (fun j hj g1 eA => ?_)
      · by_cases e : j = i
        · have exh : x = h := by rw [ex, e, ehub]
          rw [exh]
          exact ⟨y5, x5⟩
        · have hx := hne j (by omega) e
          have hx12 : x < 12 := by omega
          have o := t1 j x (by omega) ex
          rw [y3 x hx12 (by omega), x3 x hx12 (by omega)]
          exact o
      · have hx := hne j hj2 (by omega)
        rw [y3 x (by omega) (by omega)]
        exact t2 j x (by omega) hj2 ex
      · by_cases e : j = i
        · rcases x6 g1 (by rw [← eA, e, ehub]) with f | f
          · exact Or.inl (y4 g1 f)
          · exact Or.inr f
        · rcases t3 j (by omega) g1 eA with f | f
          · exact Or.inl (y4 g1 f)
          · exact Or.inr (x4 g1 f)
theorem rs_la2 {post : St2 → Prop} (H : ∀ b15 b16 : Nat → Int32, (∀ j, j < 144 → b15 j = nI 1000000) → (∀ j, j < 144 → b16 j = nI 1000000) → ∃ n, wX_layLabels_33 post n 0 f0 h0 a1 a2 a3 a4 a5 a6 a7 a8 a9 a10 a11 a12 a13 a14 b15 b16 a17 a18 a19 a20 a21 a22) :
    ∀ (n i : Nat) (b15 b16 : Nat → Int32), i ≤ 144 → 144 - i < n → (∀ j, j < i → b15 j = nI 1000000) → (∀ j, j < i → b16 j = nI 1000000) → wX_layLabels_2 post f0 h0 n (nI i) a1 a2 a3 a4 a5 a6 a7 a8 a9 a10 a11 a12 a13 a14 b15 b16 a17 a18 a19 a20 a21 a22 := by
  intro n
  induction n with
  | zero => intro i b15 b16 hi hn; exact absurd hn (by omega)
  | succ n ih =>
    intro i b15 b16 hi hn h1 h2
    refine pk_le 144 i (fun z => H b15 b16 (fun j hj => h1 j (by omega)) (fun j hj => h2 j (by omega))) (fun z => ?_)
    rw [nI_clamp (show i < 2 ^ 31 by omega)]
    exact ⟨pk_in i 144 z, nm_e ⟨pk_in i 144 z, nm_e (nm_r (nI_1 i) (ih (i + 1) _ _ (by omega) (by omega) (rs_fill (P := fun p x => x = nI 1000000) h1 rfl) (rs_fill (P := fun p x => x = nI 1000000) h2 rfl)))⟩⟩
theorem rs_layLabels {post : St2 → Prop} (k : rs_ok g A B l) (h4 : ∀ i, i < 144 → a4 i = nI (rs_R g A B l i))
    (H : ∀ b7 b8 b9 b10 b15 b16 : Nat → Int32, rs_LB g A B l b15 b16 → post (f0, h0, a1, a2, a3, a4, a5, a6, b7, b8, b9, b10, a11, a12, a13, a14, b15, b16, a17, a18, a19, a20, a21, a22)) : wpX_layLabels post (f0, h0, a1, a2, a3, a4, a5, a6, a7, a8, a9, a10, a11, a12, a13, a14, a15, a16, a17, a18, a19, a20, a21, a22) := by
  unfold wpX_layLabels
  refine ⟨145, rs_la2 (fun b15 b16 h1 h2 => ⟨13, ?_⟩) 145 0 a15 a16 (by omega) (by omega) (fun j hj => absurd hj (by omega)) (fun j hj => absurd hj (by omega))⟩
  exact rs_la33 k h4 H 13 0 a7 a8 a9 a10 b15 b16 (fun _ => 1000000) (fun _ => 1000000) (by omega) (by omega) h1 h2 ⟨fun _ _ _ _ => Or.inl rfl, fun _ _ _ _ => Or.inl rfl⟩ (fun j x hj _ => absurd hj (by omega)) (fun _ _ _ _ _ => rfl) (fun j hj => absurd hj (by omega))
end
end
section
def rs_F (E : Nat → Nat) (s : Nat) (y : Nat → Int32) (p : Nat) : Nat := if y s = 0 then rs_e s p else E p
theorem rs_F_of {E : Nat → Nat} {s : Nat} {x y : Nat → Int32} (h : rs_I E s x y) : ∀ p, p < 12 → x p = nI (rs_F E s y p) := by
  intro p hp
  unfold rs_F
  rcases h with ⟨i1, i2⟩ | ⟨i1, i2⟩
  · rw [if_pos i1]; exact i2 p hp
  · rw [if_neg i1]; exact i2 p hp
theorem rs_F_le {E : Nat → Nat} {s : Nat} {y : Nat → Int32} {p : Nat} (h : E p ≤ 1000000) : rs_F E s y p ≤ 1000000 := by
  unfold rs_F
  have := rs_ele s p
  split <;> omega
theorem rs_F_ge {E : Nat → Nat} {s : Nat} {y : Nat → Int32} {p : Nat} (h : E p ≤ 1000000) (h0 : E s = 0) : E p ≤ rs_F E s y p := by
  unfold rs_F
  by_cases c : y s = 0
  · rw [if_pos c]
    by_cases e : p = s
    · rw [e, h0]; omega
    · rw [rs_eN e]; exact h
  · rw [if_neg c]; exact Nat.le_refl _
theorem rs_F_s {E : Nat → Nat} {s : Nat} {y : Nat → Int32} (h0 : E s = 0) : rs_F E s y s = 0 := by
  unfold rs_F
  split
  · exact rs_e0 s
  · exact h0
/-- the shortest meeting of two searches -/
def rs_M (E G : Nat → Nat) (s t : Nat) (y v : Nat → Int32) (M : Nat) : Prop := M ≤ 1000000 ∧ (∀ p, p < 12 → M ≤ rs_F E s y p + rs_F G t v p) ∧ (M = 1000000 ∨ ∃ p, p < 12 ∧ M = rs_F E s y p + rs_F G t v p)
section
variable {f0 h0 : Int32} {a1 a2 a3 a4 a5 a6 a7 a8 a9 a10 a11 a12 a13 a14 a15 a16 a17 a18 a19 a20 a21 a22 : Nat → Int32}
variable {g A B l : Nat}
theorem rs_M_lo {s t M : Nat} {y v : Nat → Int32} (k : rs_ok g A B l) (h : rs_M (fun p => rs_D g A B l s p) (fun p => rs_D g A B l p t) s t y v M) : rs_D g A B l s t ≤ M := by
  have d := rs_Dle k s t
  rcases h.2.2 with e | ⟨p, hp, e⟩
  · omega
  · have d1 : rs_D g A B l s p ≤ rs_F (fun p => rs_D g A B l s p) s y p := rs_F_ge (E := fun p => rs_D g A B l s p) (rs_Dle k s p) (rs_Ds s)
    have d2 : rs_D g A B l p t ≤ rs_F (fun p => rs_D g A B l p t) t v p := rs_F_ge (E := fun p => rs_D g A B l p t) (rs_Dle k p t) (rs_Ds t)
    have d3 := rs_tri k s p t
    omega
theorem rs_M_hi {s t M : Nat} {y v : Nat → Int32} (hs : s < 12) (ht : t < 12) (h : rs_M (fun p => rs_D g A B l s p) (fun p => rs_D g A B l p t) s t y v M) (hc : ¬ y s = 0 ∨ ¬ v t = 0 ∨ M ≤ 0) : M ≤ rs_D g A B l s t := by
  rcases hc with c | c | c
  · have d := h.2.1 t ht
    have e1 : rs_F (fun p => rs_D g A B l s p) s y t = rs_D g A B l s t := by unfold rs_F; rw [if_neg c]
    have e2 : rs_F (fun p => rs_D g A B l p t) t v t = 0 := rs_F_s (rs_Ds t)
    omega
  · have d := h.2.1 s hs
    have e1 : rs_F (fun p => rs_D g A B l p t) t v s = rs_D g A B l s t := by unfold rs_F; rw [if_neg c]
    have e2 : rs_F (fun p => rs_D g A B l s p) s y s = 0 := rs_F_s (rs_Ds s)
    omega
  · omega
theorem rs_M_same {E G : Nat → Nat} {s t M M' : Nat} {y v : Nat → Int32} (h : rs_M E G s t y v M) (h' : rs_M E G s t y v M') : M' ≤ M := by
  rcases h.2.2 with e | ⟨p, hp, e⟩
  · rw [e]; exact h'.1
  · rw [e]; exact h'.2.1 p hp
theorem rs_b109 {post : Int32 → St2 → Prop} {J : Int32 → Int32 → Int32 → Int32 → (Nat → Int32) → (Nat → Int32) → (Nat → Int32) → (Nat → Int32) → (Nat → Int32) → (Nat → Int32) → (Nat → Int32) → (Nat → Int32) → (Nat → Int32) → (Nat → Int32) → (Nat → Int32) → (Nat → Int32) → (Nat → Int32) → (Nat → Int32) → (Nat → Int32) → (Nat → Int32) → (Nat → Int32) → (Nat → Int32) → (Nat → Int32) → (Nat → Int32) → (Nat → Int32) → (Nat → Int32) → Prop} {s t : Nat} {x : Int32} (k : rs_ok g A B l) (hI : rs_I (fun p => rs_D g A B l s p) s a7 a8) (hJ : rs_I (fun p => rs_D g A B l p t) t a9 a10)
    (H : ∀ M, rs_M (fun p => rs_D g A B l s p) (fun p => rs_D g A B l p t) s t a8 a10 M → J (nI M) x f0 h0 a1 a2 a3 a4 a5 a6 a7 a8 a9 a10 a11 a12 a13 a14 a15 a16 a17 a18 a19 a20 a21 a22) : wX_distanceFromBoth_109 post J x f0 h0 a1 a2 a3 a4 a5 a6 a7 a8 a9 a10 a11 a12 a13 a14 a15 a16 a17 a18 a19 a20 a21 a22 := by
  unfold wX_distanceFromBoth_109
  exact rs_meet (rs_F_of hI) (rs_F_of hJ) (fun p _ => rs_F_le (rs_Dle k s p)) (fun p _ => rs_F_le (rs_Dle k p t)) (fun M m1 m2 m3 => H M ⟨m1, m2, m3⟩)
theorem rs_b14 {post : Int32 → St2 → Prop} {s t : Nat} (k : rs_ok g A B l) (hs : s < 12) (ht : t < 12) (h4 : ∀ i, i < 144 → a4 i = nI (rs_R g A B l i))
    (H : ∀ b7 b8 b9 b10 : Nat → Int32, post (nI (rs_D g A B l s t)) (f0, h0, a1, a2, a3, a4, a5, a6, b7, b8, b9, b10, a11, a12, a13, a14, a15, a16, a17, a18, a19, a20, a21, a22)) :
    ∀ (n M : Nat) (x : Int32) (b7 b8 b9 b10 : Nat → Int32), rs_cnt b8 12 + rs_cnt b10 12 + (if x = 0 then 0 else 1) < n → rs_I (fun p => rs_D g A B l s p) s b7 b8 → rs_I (fun p => rs_D g A B l p t) t b9 b10 → rs_M (fun p => rs_D g A B l s p) (fun p => rs_D g A B l p t) s t b8 b10 M → ((x = 0 ∧ M = rs_D g A B l s t) ∨ x = 1) → wX_distanceFromBoth_14 post n (nI M) x f0 h0 a1 a2 a3 a4 a5 a6 b7 b8 b9 b10 a11 a12 a13 a14 a15 a16 a17 a18 a19 a20 a21 a22 := by
  intro n
  induction n with
  | zero => intro M x b7 b8 b9 b10 hn; exact absurd hn (by omega)
  | succ n ih =>
    intro M x b7 b8 b9 b10 hn hI hJ hM hx
    rcases hx with ⟨hx, e⟩ | hx
    · refine br_t hx ?_
      rw [e]
      exact H b7 b8 b9 b10
    · subst hx
      rw [if_neg (by decide)] at hn
      refine br_f (by decide) ?_
      refine rs_openF hs (fun p _ => rs_Dle k s p) hI (fun r hr => ?_)
      refine rs_openB ht (fun p _ => rs_Dle k p t) hJ (fun r' hr' => ?_)
      have stop : (¬ b8 s = 0 ∨ ¬ b10 t = 0 ∨ M ≤ 0) → ∀ y y' : Int32, wX_distanceFromBoth_64 post (wX_distanceFromBoth_14 post n) y y' f0 h0 a1 a2 a3 a4 a5 a6 b7 b8 b9 b10 a11 a12 a13 a14 a15 a16 a17 a18 a19 a20 a21 a22 := by
        intro hc y y'
        unfold wX_distanceFromBoth_64 wX_distanceFromBoth_65
        refine br_t rfl ?_
        unfold wX_distanceFromBoth_98
        refine br_t rfl ?_
        refine rs_b109 k hI hJ (fun M' hM' => ih M' 0 b7 b8 b9 b10 (by rw [if_pos rfl]; omega) hI hJ hM' (Or.inl ⟨rfl, ?_⟩))
        have l1 := rs_M_lo k hM'
        have l2 : M' ≤ rs_D g A B l s t := by
          refine rs_M_hi hs ht hM' ?_
          rcases hc with c | c | c
          · exact Or.inl c
          · exact Or.inr (Or.inl c)
          · have := rs_M_same hM hM'
            exact Or.inr (Or.inr (by omega))
        omega
      rcases hr with ⟨e, q1, q2, q3⟩ | ⟨u, e, hO, hIu⟩
      · subst e
        exact br_t (by decide) (stop (Or.inl q1) _ _)
      · subst e
        have hu := hO.1
        refine br_f (nI_pos (by omega)) ?_
        rcases hr' with ⟨e, q1, q2, q3⟩ | ⟨v, e, hP, hJv⟩
        · subst e
          exact br_t (by decide) (stop (Or.inr (Or.inl q1)) _ _)
        · subst e
          have hv := hP.1
          refine br_f (nI_pos (by omega)) ⟨pk_in u 12 hu, pk_in v 12 hv, ?_⟩
          have eu := rs_F_of hI u hu
          have ev := rs_F_of hJ v hv
          have lu : rs_F (fun p => rs_D g A B l s p) s b8 u ≤ 1000000 := rs_F_le (rs_Dle k s u)
          have lv : rs_F (fun p => rs_D g A B l p t) t b10 v ≤ 1000000 := rs_F_le (rs_Dle k v t)
          have lM := hM.1
          rw [nI_clamp (show u < 2 ^ 31 by omega), nI_clamp (show v < 2 ^ 31 by omega), eu, ev, nI_add]
          refine pk_le M (rs_F (fun p => rs_D g A B l s p) s b8 u + rs_F (fun p => rs_D g A B l p t) t b10 v) (fun c => stop ?_ _ _) (fun c => ?_)
          · rcases hO.2.2 with ⟨o1, o2⟩ | ⟨o1, _⟩
            · rcases hP.2.2 with ⟨p1, p2⟩ | ⟨p1, _⟩
              · refine Or.inr (Or.inr ?_)
                rw [o2, p2, rs_F_s (E := fun p => rs_D g A B l s p) (rs_Ds s), rs_F_s (E := fun p => rs_D g A B l p t) (rs_Ds t)] at c
                exact c
              · exact Or.inr (Or.inl p1)
            · exact Or.inl o1
          · unfold wX_distanceFromBoth_65
            have cu := rs_cnt_upd hu hO.2.1
            have cv := rs_cnt_upd hv hP.2.1
            refine br_f (by decide) ⟨pk_in u 12 hu, pk_in v 12 hv, br_c (fun _ => ?_) (fun _ => ?_)⟩
            · unfold wX_distanceFromBoth_98
              refine br_f (by decide) ?_
              refine rs_stepB h4 (rs_Rle k) (rs_TB k ht) hP hJ (fun c9 hc9 => ?_)
              exact rs_b109 k hI hc9 (fun M' hM' => ih M' 1 b7 b8 c9 _ (by rw [if_neg (by decide)]; omega) hI hc9 hM' (Or.inr rfl))
            · refine rs_stepF h4 (rs_Rle k) (rs_TF k s) hO hI (fun c7 hc7 => ?_)
              exact rs_b109 k hc7 hJ (fun M' hM' => ih M' 1 c7 _ b9 b10 (by rw [if_neg (by decide)]; omega) hc7 hJ hM' (Or.inr rfl))
theorem rs_distanceFromBoth {post : Int32 → St2 → Prop} {s t : Nat} (k : rs_ok g A B l) (hs : s < 12) (ht : t < 12) (h4 : ∀ i, i < 144 → a4 i = nI (rs_R g A B l i))
    (H : ∀ b7 b8 b9 b10 : Nat → Int32, post (nI (rs_D g A B l s t)) (f0, h0, a1, a2, a3, a4, a5, a6, b7, b8, b9, b10, a11, a12, a13, a14, a15, a16, a17, a18, a19, a20, a21, a22)) : wpX_distanceFromBoth post (f0, h0, a1, a2, a3, a4, a5, a6, a7, a8, a9, a10, a11, a12, a13, a14, a15, a16, a17, a18, a19, a20, a21, a22) (nI s) (nI t) := by
  unfold wpX_distanceFromBoth
  dsimp only
  refine rs_startBoth hs ht (fun b7 b8 b9 b10 h7 h8 h9 h10 => ?_)
  have hI : rs_I (fun p => rs_D g A B l s p) s b7 b8 := Or.inl ⟨h8 s hs, h7⟩
  have hJ : rs_I (fun p => rs_D g A B l p t) t b9 b10 := Or.inl ⟨h10 t ht, h9⟩
  refine rs_meet (rs_F_of hI) (rs_F_of hJ) (fun p _ => rs_F_le (rs_Dle k s p)) (fun p _ => rs_F_le (rs_Dle k p t)) (fun M m1 m2 m3 => ⟨26, ?_⟩)
  exact rs_b14 k hs ht h4 H 26 M 1 b7 b8 b9 b10 (by have := rs_cnt_le b8 12; have := rs_cnt_le b10 12; rw [if_neg (by decide)]; omega) hI hJ ⟨m1, m2, m3⟩ (Or.inr rfl)
end
end
section
/-! bits: rows of the kit's BITS family, turned -/
def rs_bt (x : Int32) (i : Nat) : Bool := x.toBitVec.getLsbD i
theorem rs_bor (x y : Int32) (i : Nat) : rs_bt (x ||| y) i = (rs_bt x i || rs_bt y i) := by unfold rs_bt; rw [Int32.toBitVec_or, BitVec.getLsbD_or]
theorem rs_band (x y : Int32) (i : Nat) : rs_bt (x &&& y) i = (rs_bt x i && rs_bt y i) := by unfold rs_bt; rw [Int32.toBitVec_and, BitVec.getLsbD_and]
theorem rs_bext {x y : Int32} (h : ∀ i, i < 32 → rs_bt x i = rs_bt y i) : x = y := Int32.toBitVec_inj.mp (BitVec.eq_of_getLsbD_eq (fun i hi => h i hi))
theorem rs_b0 (i : Nat) : rs_bt 0 i = false := BitVec.getLsbD_zero
theorem rs_b1 : ∀ i, i < 32 → rs_bt 1 i = decide (i = 0) := by decide +kernel
theorem rs_bsl : ∀ n, n < 32 → ((nI n &&& 31).toBitVec.smod 32).toNat = n := by decide +kernel
theorem rs_bshr (n : Nat) (hn : n < 32) (x : Int32) : rs_bt (x >>> (nI n &&& 31)) 0 = rs_bt x n := by
  unfold rs_bt
  rw [Int32.toBitVec_shiftRight]
  show (x.toBitVec.sshiftRight ((nI n &&& 31).toBitVec.smod 32).toNat).getLsbD 0 = _
  rw [rs_bsl n hn, BitVec.getLsbD_sshiftRight]
  simp [hn]
theorem rs_bone : ∀ b, b < 12 → ∀ p, p < 12 → rs_bt ((1 : Int32) <<< (nI b &&& 31)) p = decide (p = b) := by decide +kernel
/-- the bit of a point that is left is 0 -/
def rs_lf (d : Int32) (p : Nat) : Int32 := (d >>> (nI p &&& 31)) &&& 1
theorem rs_lf0 (d : Int32) (p : Nat) (hp : p < 32) : rs_lf d p = 0 ↔ rs_bt d p = false := by
  unfold rs_lf
  constructor
  · intro h
    have h2 : rs_bt ((d >>> (nI p &&& 31)) &&& 1) 0 = rs_bt 0 0 := by rw [h]
    rw [rs_band, rs_b0, rs_bshr p hp, rs_b1 0 (by omega)] at h2
    simpa using h2
  · intro h
    apply rs_bext
    intro i hi
    rw [rs_band, rs_b0, rs_b1 i hi]
    by_cases e : i = 0
    · rw [e, rs_bshr p hp, h]; rfl
    · rw [decide_eq_false e, Bool.and_false]
theorem rs_lfor {d : Int32} {b p : Nat} (hb : b < 12) (hp : p < 12) : rs_lf (d ||| ((1 : Int32) <<< (nI b &&& 31))) p = 0 ↔ (p ≠ b ∧ rs_lf d p = 0) := by
  rw [rs_lf0 _ p (by omega), rs_lf0 _ p (by omega), rs_bor, rs_bone b hb p hp]
  by_cases e : p = b
  · rw [decide_eq_true e, Bool.or_true]
    constructor
    · intro h; exact absurd h (by decide)
    · intro h; exact absurd e h.1
  · rw [decide_eq_false e, Bool.or_false]
    constructor
    · intro h; exact ⟨e, h⟩
    · intro h; exact h.2
theorem rs_lfz : ∀ p, p < 12 → rs_lf 0 p = 0 := by decide +kernel
def rs_H (g A B l : Nat) (x y : Nat → Int32) : Prop := (∀ i, i < 144 → x i = nI (rs_R g A B l i)) ∧ ∃ rk : Nat → Nat, (∀ p, p < 12 → y p = nI (rk p) ∧ rk p < 12) ∧ (∀ p q, p < 12 → q < 12 → rk p = rk q → p = q)
section
variable {f0 h0 : Int32} {a1 a2 a3 a4 a5 a6 a7 a8 a9 a10 a11 a12 a13 a14 a15 a16 a17 a18 a19 a20 a21 a22 : Nat → Int32}
variable {g A B l : Nat}
theorem rs_isL {post : Int32 → Prop} {p : Nat} {d : Int32} (H1 : rs_lf d p = 0 → post 1) (H0 : ¬ rs_lf d p = 0 → post 0) : wpX_isLeft post (f0, h0, a1, a2, a3, a4, a5, a6, a7, a8, a9, a10, a11, a12, a13, a14, a15, a16, a17, a18, a19, a20, a21, a22) (nI p) d := And.intro H1 H0
/-! shortcutsFor: with one road there are none -/
theorem rs_RR (k : rs_ok g A B l) {u x v : Nat} (hx : x < 12) (hv : v < 12) : 1000000 ≤ rs_R g A B l (u * 12 + x) + rs_R g A B l (x * 12 + v) := by
  have k' := k
  obtain ⟨_, _, _, _, _, _⟩ := k'
  rcases rs_Rc k (s := u) hx with h1 | h1 <;> rcases rs_Rc k (s := x) hv with h2 | h2 <;> omega
theorem rs_sc16 {post : Int32 → St2 → Prop} {J : Int32 → Int32 → Int32 → Int32 → (Nat → Int32) → (Nat → Int32) → (Nat → Int32) → (Nat → Int32) → (Nat → Int32) → (Nat → Int32) → (Nat → Int32) → (Nat → Int32) → (Nat → Int32) → (Nat → Int32) → (Nat → Int32) → (Nat → Int32) → (Nat → Int32) → (Nat → Int32) → (Nat → Int32) → (Nat → Int32) → (Nat → Int32) → (Nat → Int32) → (Nat → Int32) → (Nat → Int32) → (Nat → Int32) → (Nat → Int32) → Prop} {x u : Nat} {d y : Int32} (k : rs_ok g A B l) (hx : x < 12) (hu : u < 12) (h13 : ∀ i, i < 144 → a13 i = nI (rs_R g A B l i)) (H : J 0 (nI (u + 1)) f0 h0 a1 a2 a3 a4 a5 a6 a7 a8 a9 a10 a11 a12 a13 a14 a15 a16 a17 a18 a19 a20 a21 a22) :
    ∀ n i : Nat, i ≤ 12 → 12 - i < n → wX_shortcutsFor_16 post J (nI x) d y (nI u) n 0 (nI i) f0 h0 a1 a2 a3 a4 a5 a6 a7 a8 a9 a10 a11 a12 a13 a14 a15 a16 a17 a18 a19 a20 a21 a22 := by
  intro n
  induction n with
  | zero => intro i hi hn; exact absurd hn (by omega)
  | succ n ih =>
    intro i hi hn
    refine pk_le 12 i (fun z => nm_r (nI_1 u) H) (fun z => ?_)
    have nx := ih (i + 1) (by omega) (by omega)
    have q67 : ∀ w : Int32, wX_shortcutsFor_67 post J (wX_shortcutsFor_16 post J (nI x) d y (nI u) n) (nI x) d y 0 (nI u) (nI i) w f0 h0 a1 a2 a3 a4 a5 a6 a7 a8 a9 a10 a11 a12 a13 a14 a15 a16 a17 a18 a19 a20 a21 a22 := by
      intro w
      unfold wX_shortcutsFor_67
      have b1 := rs_Rle k (u * 12 + x)
      have b2 := rs_Rle k (x * 12 + i)
      have b3 := rs_RR k (u := u) hx z
      refine ⟨pk_in (u * 12 + x) 144 (by omega) (rs_ix u x), pk_in (x * 12 + i) 144 (by omega) (rs_ix x i), nm_r (e' := nI (rs_R g A B l (u * 12 + x) + rs_R g A B l (x * 12 + i))) (by rw [rs_rd (rs_ix u x) (by omega) (h13 _ (by omega)), rs_rd (rs_ix x i) (by omega) (h13 _ (by omega)), nI_add]) ?_⟩
      exact br_c (fun _ => nm_r (nI_1 i) nx) (fun _ => pk_le 1000000 (rs_R g A B l (u * 12 + x) + rs_R g A B l (x * 12 + i)) (fun _ => nm_r (nI_1 i) nx) (fun c => absurd c (by omega)))
    have q66 : wX_shortcutsFor_66 post J (wX_shortcutsFor_16 post J (nI x) d y (nI u) n) (nI x) d y 0 (nI u) (nI i) f0 h0 a1 a2 a3 a4 a5 a6 a7 a8 a9 a10 a11 a12 a13 a14 a15 a16 a17 a18 a19 a20 a21 a22 := by
      unfold wX_shortcutsFor_66
      exact q67 0
    exact br_c (fun _ => q66) (fun _ => br_c (fun _ => q66) (fun _ => br_c (fun _ => q66) (fun _ => rs_isL (fun _ => br_f (by decide) (rs_isL (fun _ => br_f (by decide) (q67 1)) (fun _ => br_t rfl q66))) (fun _ => br_t rfl q66))))
theorem rs_sc6 {post : Int32 → St2 → Prop} {x : Nat} {d y : Int32} (k : rs_ok g A B l) (hx : x < 12) (h13 : ∀ i, i < 144 → a13 i = nI (rs_R g A B l i)) (H : post 0 (f0, h0, a1, a2, a3, a4, a5, a6, a7, a8, a9, a10, a11, a12, a13, a14, a15, a16, a17, a18, a19, a20, a21, a22)) :
    ∀ n u : Nat, u ≤ 12 → 12 - u < n → wX_shortcutsFor_6 post (nI x) d y n 0 (nI u) f0 h0 a1 a2 a3 a4 a5 a6 a7 a8 a9 a10 a11 a12 a13 a14 a15 a16 a17 a18 a19 a20 a21 a22 := by
  intro n
  induction n with
  | zero => intro u hi hn; exact absurd hn (by omega)
  | succ n ih =>
    intro u hi hn
    exact pk_le 12 u (fun z => H) (fun z => ⟨13, rs_sc16 k hx z h13 (ih (u + 1) (by omega) (by omega)) 13 0 (by omega) (by omega)⟩)
theorem rs_shortcutsFor {post : Int32 → St2 → Prop} {x : Nat} {d y : Int32} (k : rs_ok g A B l) (hx : x < 12) (h13 : ∀ i, i < 144 → a13 i = nI (rs_R g A B l i)) (H : post 0 (f0, h0, a1, a2, a3, a4, a5, a6, a7, a8, a9, a10, a11, a12, a13, a14, a15, a16, a17, a18, a19, a20, a21, a22)) : wpX_shortcutsFor post (f0, h0, a1, a2, a3, a4, a5, a6, a7, a8, a9, a10, a11, a12, a13, a14, a15, a16, a17, a18, a19, a20, a21, a22) (nI x) d y := by
  unfold wpX_shortcutsFor
  exact ⟨13, rs_sc6 k hx h13 H 13 0 (by omega) (by omega)⟩
/-! edgesAt: some number -/
theorem rs_ea5 {post : Int32 → Prop} {x : Nat} {d : Int32} (hx : x < 12) (H : ∀ r, post r) :
    ∀ (n i : Nat) (v : Int32), i ≤ 12 → 12 - i < n → wX_edgesAt_5 post (nI x) d f0 h0 a1 a2 a3 a4 a5 a6 a7 a8 a9 a10 a11 a12 a13 a14 a15 a16 a17 a18 a19 a20 a21 a22 n v (nI i) := by
  intro n
  induction n with
  | zero => intro i v hi hn; exact absurd hn (by omega)
  | succ n ih =>
    intro i v hi hn
    refine pk_le 12 i (fun z => H v) (fun z => ?_)
    have nx : ∀ v, wX_edgesAt_5 post (nI x) d f0 h0 a1 a2 a3 a4 a5 a6 a7 a8 a9 a10 a11 a12 a13 a14 a15 a16 a17 a18 a19 a20 a21 a22 n v (nI (i + 1)) := fun v => ih (i + 1) v (by omega) (by omega)
    have q45 : ∀ w v : Int32, wX_edgesAt_45 post (wX_edgesAt_5 post (nI x) d f0 h0 a1 a2 a3 a4 a5 a6 a7 a8 a9 a10 a11 a12 a13 a14 a15 a16 a17 a18 a19 a20 a21 a22 n) (nI x) d (nI i) w v f0 h0 a1 a2 a3 a4 a5 a6 a7 a8 a9 a10 a11 a12 a13 a14 a15 a16 a17 a18 a19 a20 a21 a22 := by
      intro w v
      unfold wX_edgesAt_45
      exact fun y _ => rs_isL (fun _ => br_f (by decide) ⟨pk_in (x * 12 + i) 144 (by omega) (rs_ix x i), br_c (fun _ => fun y' _ => nm_r (nI_1 i) (nx y')) (fun _ => fun y' _ => nm_r (nI_1 i) (nx y'))⟩) (fun _ => br_t rfl (fun y' _ => nm_r (nI_1 i) (nx y')))
    have q44 : ∀ v : Int32, wX_edgesAt_44 post (wX_edgesAt_5 post (nI x) d f0 h0 a1 a2 a3 a4 a5 a6 a7 a8 a9 a10 a11 a12 a13 a14 a15 a16 a17 a18 a19 a20 a21 a22 n) (nI x) d (nI i) v f0 h0 a1 a2 a3 a4 a5 a6 a7 a8 a9 a10 a11 a12 a13 a14 a15 a16 a17 a18 a19 a20 a21 a22 := by
      intro v
      unfold wX_edgesAt_44
      exact q45 0 v
    exact rs_isL (fun _ => br_f (by decide) ⟨pk_in (i * 12 + x) 144 (by omega) (rs_ix i x), br_c (fun _ => q44 v) (fun _ => q45 1 v)⟩) (fun _ => br_t rfl (q44 v))
theorem rs_edgesAt {post : Int32 → Prop} {x : Nat} {d : Int32} (hx : x < 12) (H : ∀ r, post r) : wpX_edgesAt post (f0, h0, a1, a2, a3, a4, a5, a6, a7, a8, a9, a10, a11, a12, a13, a14, a15, a16, a17, a18, a19, a20, a21, a22) (nI x) d := by
  unfold wpX_edgesAt
  exact ⟨13, rs_ea5 hx H 13 0 0 (by omega) (by omega)⟩
/-! layHierarchy -/
theorem rs_lh45 {post : St2 → Prop} {J : Int32 → Int32 → Int32 → Int32 → (Nat → Int32) → (Nat → Int32) → (Nat → Int32) → (Nat → Int32) → (Nat → Int32) → (Nat → Int32) → (Nat → Int32) → (Nat → Int32) → (Nat → Int32) → (Nat → Int32) → (Nat → Int32) → (Nat → Int32) → (Nat → Int32) → (Nat → Int32) → (Nat → Int32) → (Nat → Int32) → (Nat → Int32) → (Nat → Int32) → (Nat → Int32) → (Nat → Int32) → (Nat → Int32) → (Nat → Int32) → Prop} {r : Nat} {d : Int32} (k : rs_ok g A B l) (hr : r < 12) (h13 : ∀ i, i < 144 → a13 i = nI (rs_R g A B l i)) (hd : ∃ p, p < 12 ∧ rs_lf d p = 0)
    (H : ∀ u, u < 12 → rs_lf d u = 0 → J (d ||| ((1 : Int32) <<< (nI u &&& 31))) (nI (r + 1)) f0 h0 a1 a2 a3 a4 a5 a6 a7 a8 a9 a10 a11 a12 a13 (upd a14 u (nI r)) a15 a16 a17 a18 a19 a20 a21 a22) :
    ∀ (n i : Nat) (x y : Int32), i ≤ 12 → 12 - i < n → ((x = -1 ∧ ∀ p, p < i → ¬ rs_lf d p = 0) ∨ (∃ u, u < 12 ∧ x = nI u ∧ rs_lf d u = 0)) → wX_layHierarchy_45 post J d (nI r) n x y (nI i) f0 h0 a1 a2 a3 a4 a5 a6 a7 a8 a9 a10 a11 a12 a13 a14 a15 a16 a17 a18 a19 a20 a21 a22 := by
  intro n
  induction n with
  | zero => intro i x y hi hn; exact absurd hn (by omega)
  | succ n ih =>
    intro i x y hi hn hI
    refine pk_le 12 i (fun z => ?_) (fun z => ?_)
    · rcases hI with ⟨_, h⟩ | ⟨u, hu, e, hl⟩
      · obtain ⟨p, hp, hl⟩ := hd
        exact absurd hl (h p (by omega))
      · subst e
        refine rs_shortcutsFor k hu h13 ?_
        exact ⟨pk_in u 12 hu, nm_r (by rw [nI_clamp (by omega), rs_b8 r (by omega)]) (nm_e (nm_r (nI_1 r) (H u hu hl)))⟩
    · have keep : ∀ y, (rs_lf d i = 0 → ∃ u, u < 12 ∧ x = nI u ∧ rs_lf d u = 0) → wX_layHierarchy_45 post J d (nI r) n x y (nI (i + 1)) f0 h0 a1 a2 a3 a4 a5 a6 a7 a8 a9 a10 a11 a12 a13 a14 a15 a16 a17 a18 a19 a20 a21 a22 := by
        intro y c
        refine ih (i + 1) x y (by omega) (by omega) ?_
        rcases hI with ⟨e, h⟩ | h
        · by_cases c' : rs_lf d i = 0
          · exact Or.inr (c c')
          · refine Or.inl ⟨e, fun p hp => ?_⟩
            by_cases e' : p = i
            · rw [e']; exact c'
            · exact h p (by omega)
        · exact Or.inr h
      refine rs_isL (fun c => br_f (by decide) ?_) (fun c => br_t rfl (nm_r (nI_1 i) (keep y (fun c' => absurd c' c))))
      refine rs_shortcutsFor k z h13 ?_
      refine rs_edgesAt z (fun r' => nm_e ?_)
      have new : ∀ y, wX_layHierarchy_45 post J d (nI r) n (nI i) y (nI (i + 1)) f0 h0 a1 a2 a3 a4 a5 a6 a7 a8 a9 a10 a11 a12 a13 a14 a15 a16 a17 a18 a19 a20 a21 a22 := fun y => ih (i + 1) (nI i) y (by omega) (by omega) (Or.inr ⟨i, z, rfl, c⟩)
      have q91 : ∀ x6 : Int32, wX_layHierarchy_91 post J (wX_layHierarchy_45 post J d (nI r) n) d (nI r) x y (nI i) x6 f0 h0 a1 a2 a3 a4 a5 a6 a7 a8 a9 a10 a11 a12 a13 a14 a15 a16 a17 a18 a19 a20 a21 a22 := by
        intro x6
        unfold wX_layHierarchy_91 wX_layHierarchy_96 wX_layHierarchy_110
        exact br_f (by decide) (br_f (by decide) (nm_r (nI_1 i) (new _)))
      rcases hI with ⟨e, h⟩ | ⟨u, hu, e, hl⟩
      · exact br_t (by rw [e]; decide) (q91 _)
      · refine br_f (by rw [e]; exact nI_pos (by omega)) (br_c (fun _ => ?_) (fun _ => q91 _))
        unfold wX_layHierarchy_96 wX_layHierarchy_110
        exact br_t rfl (br_t rfl (nm_r (nI_1 i) (keep _ (fun _ => ⟨u, hu, e, hl⟩))))
theorem rs_lh31 {post : St2 → Prop} (k : rs_ok g A B l) (h13 : ∀ i, i < 144 → a13 i = nI (rs_R g A B l i))
    (H : ∀ b14 : Nat → Int32, rs_H g A B l a13 b14 → post (f0, h0, a1, a2, a3, a4, a5, a6, a7, a8, a9, a10, a11, a12, a13, b14, a15, a16, a17, a18, a19, a20, a21, a22)) :
    ∀ (n r : Nat) (d : Int32) (b14 : Nat → Int32) (rk : Nat → Nat), r ≤ 12 → 12 - r < n → rs_cnt (rs_lf d) 12 + r = 12 → (∀ p, p < 12 → ¬ rs_lf d p = 0 → b14 p = nI (rk p) ∧ rk p < r) → (∀ p q, p < 12 → q < 12 → ¬ rs_lf d p = 0 → ¬ rs_lf d q = 0 → rk p = rk q → p = q) → wX_layHierarchy_31 post n d (nI r) f0 h0 a1 a2 a3 a4 a5 a6 a7 a8 a9 a10 a11 a12 a13 b14 a15 a16 a17 a18 a19 a20 a21 a22 := by
  intro n
  induction n with
  | zero => intro r d b14 rk hi hn; exact absurd hn (by omega)
  | succ n ih =>
    intro r d b14 rk hi hn hc h1 h2
    refine pk_le 12 r (fun z => H b14 ⟨h13, rk, fun p hp => ?_, fun p q hp hq e => ?_⟩) (fun z => ⟨13, ?_⟩)
    · have o := h1 p hp (rs_cnt_none 12 (by omega) p hp)
      exact ⟨o.1, by omega⟩
    · exact h2 p q hp hq (rs_cnt_none 12 (by omega) p hp) (rs_cnt_none 12 (by omega) q hq) e
    · refine rs_lh45 k z h13 (rs_cnt_pos 12 (by omega)) (fun u hu hl => ?_) 13 0 (-1) 0 (by omega) (by omega) (Or.inl ⟨rfl, fun p hp => absurd hp (by omega)⟩)
      have hbit : ∀ p, p < 12 → (rs_lf (d ||| ((1 : Int32) <<< (nI u &&& 31))) p = 0 ↔ (p ≠ u ∧ rs_lf d p = 0)) := fun p hp => rs_lfor hu hp
      refine ih (r + 1) _ _ (fun p => if p = u then r else rk p) (by omega) (by omega) ?_ (fun p hp hn' => ?_) (fun p q hp hq np nq e => ?_)
      · have c1 := rs_cnt_one (f := rs_lf d) (f' := rs_lf (d ||| ((1 : Int32) <<< (nI u &&& 31)))) (b := u) hl (fun c => ((hbit u hu).mp c).1 rfl) 12 hu (fun p hp hne => ⟨fun c => ((hbit p hp).mp c).2, fun c => (hbit p hp).mpr ⟨hne, c⟩⟩)
        omega
      · show upd b14 u (nI r) p = nI (if p = u then r else rk p) ∧ (if p = u then r else rk p) < r + 1
        by_cases e : p = u
        · rw [if_pos e, e, pk_us]
          exact ⟨rfl, by omega⟩
        · have o := h1 p hp (fun c => hn' ((hbit p hp).mpr ⟨e, c⟩))
          rw [if_neg e, pk_un e]
          exact ⟨o.1, by omega⟩
      · have e' : (if p = u then r else rk p) = (if q = u then r else rk q) := e
        by_cases ep : p = u
        · by_cases eq : q = u
          · rw [ep, eq]
          · have o := h1 q hq (fun c => nq ((hbit q hq).mpr ⟨eq, c⟩))
            rw [if_pos ep, if_neg eq] at e'
            omega
        · have o := h1 p hp (fun c => np ((hbit p hp).mpr ⟨ep, c⟩))
          by_cases eq : q = u
          · rw [if_neg ep, if_pos eq] at e'
            omega
          · rw [if_neg ep, if_neg eq] at e'
            exact h2 p q hp hq (fun c => np ((hbit p hp).mpr ⟨ep, c⟩)) (fun c => nq ((hbit q hq).mpr ⟨eq, c⟩)) e'
theorem rs_lh2 {post : St2 → Prop} (h4 : ∀ i, i < 144 → a4 i = nI (rs_R g A B l i)) (H : ∀ b13 : Nat → Int32, (∀ i, i < 144 → b13 i = nI (rs_R g A B l i)) → ∃ n, wX_layHierarchy_31 post n 0 0 f0 h0 a1 a2 a3 a4 a5 a6 a7 a8 a9 a10 a11 a12 b13 a14 a15 a16 a17 a18 a19 a20 a21 a22) :
    ∀ (n i : Nat) (b13 : Nat → Int32), i ≤ 144 → 144 - i < n → (∀ j, j < i → b13 j = nI (rs_R g A B l j)) → wX_layHierarchy_2 post f0 h0 n (nI i) a1 a2 a3 a4 a5 a6 a7 a8 a9 a10 a11 a12 b13 a14 a15 a16 a17 a18 a19 a20 a21 a22 := by
  intro n
  induction n with
  | zero => intro i b13 hi hn; exact absurd hn (by omega)
  | succ n ih =>
    intro i b13 hi hn h
    refine pk_le 144 i (fun z => H b13 (fun j hj => h j (by omega))) (fun z => ?_)
    rw [nI_clamp (show i < 2 ^ 31 by omega)]
    exact ⟨pk_in i 144 z, pk_in i 144 z, nm_e (nm_r (nI_1 i) (ih (i + 1) _ (by omega) (by omega) (rs_fill (P := fun p x => x = nI (rs_R g A B l p)) h (h4 i z))))⟩
theorem rs_layHierarchy {post : St2 → Prop} (k : rs_ok g A B l) (h4 : ∀ i, i < 144 → a4 i = nI (rs_R g A B l i)) (H : ∀ b13 b14 : Nat → Int32, rs_H g A B l b13 b14 → post (f0, h0, a1, a2, a3, a4, a5, a6, a7, a8, a9, a10, a11, a12, b13, b14, a15, a16, a17, a18, a19, a20, a21, a22)) : wpX_layHierarchy post (f0, h0, a1, a2, a3, a4, a5, a6, a7, a8, a9, a10, a11, a12, a13, a14, a15, a16, a17, a18, a19, a20, a21, a22) := by
  unfold wpX_layHierarchy
  refine ⟨145, rs_lh2 h4 (fun b13 hb => ⟨13, ?_⟩) 145 0 a13 (by omega) (by omega) (fun j hj => absurd hj (by omega))⟩
  refine rs_lh31 k hb (fun b14 h14 => H b13 b14 h14) 13 0 0 a14 (fun _ => 0) (by omega) (by omega) ?_ (fun p hp c => absurd (rs_lfz p hp) c) (fun p q hp _ c => absurd (rs_lfz p hp) c)
  rw [rs_cnt_all 12 (fun p hp => rs_lfz p hp)]
/-! distanceUp -/
theorem rs_du25 {post : Int32 → St2 → Prop} {J : Int32 → (Nat → Int32) → (Nat → Int32) → (Nat → Int32) → (Nat → Int32) → (Nat → Int32) → (Nat → Int32) → (Nat → Int32) → (Nat → Int32) → (Nat → Int32) → (Nat → Int32) → (Nat → Int32) → (Nat → Int32) → (Nat → Int32) → (Nat → Int32) → (Nat → Int32) → (Nat → Int32) → (Nat → Int32) → (Nat → Int32) → (Nat → Int32) → (Nat → Int32) → (Nat → Int32) → (Nat → Int32) → Prop} {u : Nat} {F G R W rk : Nat → Nat} (hu : u < 12) (hF : ∀ p, p < 12 → F p ≤ 1000000) (h13 : ∀ i, i < 144 → a13 i = nI (R i)) (hR : ∀ i, R i ≤ 1000000) (h14 : ∀ p, p < 12 → a14 p = nI (rk p) ∧ rk p < 12)
    (hw0 : ∀ p, p < 12 → rk p ≤ rk u → W p = 1000000) (hw1 : ∀ p, p < 12 → rk u < rk p → W p = R (u * 12 + p)) (hG : ∀ p, p < 12 → min (F p) (F u + W p) = G p)
    (H : ∀ b7 : Nat → Int32, (∀ p, p < 12 → b7 p = nI (G p)) → wpX_nearestOpen (fun r => J r a1 a2 a3 a4 a5 a6 b7 a8 a9 a10 a11 a12 a13 a14 a15 a16 a17 a18 a19 a20 a21 a22) (f0, h0, a1, a2, a3, a4, a5, a6, b7, a8, a9, a10, a11, a12, a13, a14, a15, a16, a17, a18, a19, a20, a21, a22)) :
    ∀ (n i : Nat) (b7 : Nat → Int32), i ≤ 12 → 12 - i < n → (∀ j, j < i → b7 j = nI (G j)) → (∀ j, i ≤ j → j < 12 → b7 j = nI (F j)) → wX_distanceUp_25 post J (nI u) f0 h0 n (nI i) a1 a2 a3 a4 a5 a6 b7 a8 a9 a10 a11 a12 a13 a14 a15 a16 a17 a18 a19 a20 a21 a22 := by
  intro n
  induction n with
  | zero => intro i b7 hi hn; exact absurd hn (by omega)
  | succ n ih =>
    intro i b7 hi hn h1 h2
    refine pk_le 12 i (fun z => H b7 (fun p hp => h1 p (by omega))) (fun z => ?_)
    have hbu : b7 u = nI (F u) := by
      rcases Nat.lt_or_ge u i with c | c
      · rw [h1 u c, ← hG u hu, Nat.min_eq_left (by omega)]
      · exact h2 u c hu
    have hcl : (nI i).toNatClampNeg = i := nI_clamp (by omega)
    have hbi : b7 i = nI (F i) := h2 i (Nat.le_refl i) z
    have b1 := hF i z
    have b2 := hF u hu
    have b3 := hR (u * 12 + i)
    have go : ∀ x, x = nI (G i) → wX_distanceUp_25 post J (nI u) f0 h0 n (nI (i + 1)) a1 a2 a3 a4 a5 a6 (upd b7 i x) a8 a9 a10 a11 a12 a13 a14 a15 a16 a17 a18 a19 a20 a21 a22 :=
      fun x ex => ih (i + 1) _ (by omega) (by omega) (rs_fill (P := fun p x => x = nI (G p)) h1 ex) (fun j c d => by rw [pk_un (by omega)]; exact h2 j (by omega) d)
    have q72 : ∀ w, w ≤ 2000000 → min (F i) w = G i → wX_distanceUp_72 post J (wX_distanceUp_25 post J (nI u) f0 h0 n) (nI u) (nI i) (nI w) f0 h0 a1 a2 a3 a4 a5 a6 b7 a8 a9 a10 a11 a12 a13 a14 a15 a16 a17 a18 a19 a20 a21 a22 := by
      intro w hw hm
      unfold wX_distanceUp_72
      rw [hcl, hbi]
      refine ⟨pk_in i 12 z, pk_le (F i) w (fun c => ?_) (fun c => ?_)⟩
      · exact ⟨pk_in i 12 z, pk_in i 12 z, nm_e (nm_r (nI_1 i) (go _ (by rw [← hm, Nat.min_eq_left c])))⟩
      · exact ⟨pk_in i 12 z, nm_e (nm_r (nI_1 i) (go _ (by rw [← hm, Nat.min_eq_right (by omega)])))⟩
    have ri := h14 i z
    have ru := h14 u hu
    rw [rs_rd rfl (by omega) ri.1, rs_rd rfl (by omega) ru.1, rs_rd rfl (by omega) hbu, rs_rd (rs_ix u i) (by omega) (h13 _ (by omega)), nI_add]
    refine ⟨pk_in i 12 z, pk_in u 12 hu, pk_le (rk i) (rk u) (fun c => q72 1000000 (by omega) ?_) (fun c => ⟨pk_in u 12 hu, pk_in (u * 12 + i) 144 (by omega) (rs_ix u i), q72 (F u + R (u * 12 + i)) (by omega) ?_⟩)⟩
    · rw [← hG i z, hw0 i z c, Nat.min_eq_left b1, Nat.min_eq_left (by omega)]
    · rw [← hG i z, hw1 i z c]
theorem rs_du138 {post : Int32 → St2 → Prop} {J : Int32 → (Nat → Int32) → (Nat → Int32) → (Nat → Int32) → (Nat → Int32) → (Nat → Int32) → (Nat → Int32) → (Nat → Int32) → (Nat → Int32) → (Nat → Int32) → (Nat → Int32) → (Nat → Int32) → (Nat → Int32) → (Nat → Int32) → (Nat → Int32) → (Nat → Int32) → (Nat → Int32) → (Nat → Int32) → (Nat → Int32) → (Nat → Int32) → (Nat → Int32) → (Nat → Int32) → (Nat → Int32) → Prop} {u : Nat} {F G R W rk : Nat → Nat} (hu : u < 12) (hF : ∀ p, p < 12 → F p ≤ 1000000) (h13 : ∀ i, i < 144 → a13 i = nI (R i)) (hR : ∀ i, R i ≤ 1000000) (h14 : ∀ p, p < 12 → a14 p = nI (rk p) ∧ rk p < 12)
    (hw0 : ∀ p, p < 12 → rk p ≤ rk u → W p = 1000000) (hw1 : ∀ p, p < 12 → rk u < rk p → W p = R (p * 12 + u)) (hG : ∀ p, p < 12 → min (F p) (F u + W p) = G p)
    (H : ∀ b9 : Nat → Int32, (∀ p, p < 12 → b9 p = nI (G p)) → wpX_nearestOpenBack (fun r => J r a1 a2 a3 a4 a5 a6 a7 a8 b9 a10 a11 a12 a13 a14 a15 a16 a17 a18 a19 a20 a21 a22) (f0, h0, a1, a2, a3, a4, a5, a6, a7, a8, b9, a10, a11, a12, a13, a14, a15, a16, a17, a18, a19, a20, a21, a22)) :
    ∀ (n i : Nat) (b9 : Nat → Int32), i ≤ 12 → 12 - i < n → (∀ j, j < i → b9 j = nI (G j)) → (∀ j, i ≤ j → j < 12 → b9 j = nI (F j)) → wX_distanceUp_138 post J (nI u) f0 h0 n (nI i) a1 a2 a3 a4 a5 a6 a7 a8 b9 a10 a11 a12 a13 a14 a15 a16 a17 a18 a19 a20 a21 a22 := by
  intro n
  induction n with
  | zero => intro i b9 hi hn; exact absurd hn (by omega)
  | succ n ih =>
    intro i b9 hi hn h1 h2
    refine pk_le 12 i (fun z => H b9 (fun p hp => h1 p (by omega))) (fun z => ?_)
    have hbu : b9 u = nI (F u) := by
      rcases Nat.lt_or_ge u i with c | c
      · rw [h1 u c, ← hG u hu, Nat.min_eq_left (by omega)]
      · exact h2 u c hu
    have hcl : (nI i).toNatClampNeg = i := nI_clamp (by omega)
    have hbi : b9 i = nI (F i) := h2 i (Nat.le_refl i) z
    have b1 := hF i z
    have b2 := hF u hu
    have b3 := hR (i * 12 + u)
    have go : ∀ x, x = nI (G i) → wX_distanceUp_138 post J (nI u) f0 h0 n (nI (i + 1)) a1 a2 a3 a4 a5 a6 a7 a8 (upd b9 i x) a10 a11 a12 a13 a14 a15 a16 a17 a18 a19 a20 a21 a22 :=
      fun x ex => ih (i + 1) _ (by omega) (by omega) (rs_fill (P := fun p x => x = nI (G p)) h1 ex) (fun j c d => by rw [pk_un (by omega)]; exact h2 j (by omega) d)
    have q72 : ∀ w, w ≤ 2000000 → min (F i) w = G i → wX_distanceUp_185 post J (wX_distanceUp_138 post J (nI u) f0 h0 n) (nI u) (nI i) (nI w) f0 h0 a1 a2 a3 a4 a5 a6 a7 a8 b9 a10 a11 a12 a13 a14 a15 a16 a17 a18 a19 a20 a21 a22 := by
      intro w hw hm
      unfold wX_distanceUp_185
      rw [hcl, hbi]
      refine ⟨pk_in i 12 z, pk_le (F i) w (fun c => ?_) (fun c => ?_)⟩
      · exact ⟨pk_in i 12 z, pk_in i 12 z, nm_e (nm_r (nI_1 i) (go _ (by rw [← hm, Nat.min_eq_left c])))⟩
      · exact ⟨pk_in i 12 z, nm_e (nm_r (nI_1 i) (go _ (by rw [← hm, Nat.min_eq_right (by omega)])))⟩
    have ri := h14 i z
    have ru := h14 u hu
    rw [rs_rd rfl (by omega) ri.1, rs_rd rfl (by omega) ru.1, rs_rd rfl (by omega) hbu, rs_rd (rs_ix i u) (by omega) (h13 _ (by omega)), nI_add]
    refine ⟨pk_in i 12 z, pk_in u 12 hu, pk_le (rk i) (rk u) (fun c => q72 1000000 (by omega) ?_) (fun c => ⟨pk_in u 12 hu, pk_in (i * 12 + u) 144 (by omega) (rs_ix i u), q72 (F u + R (i * 12 + u)) (by omega) ?_⟩)⟩
    · rw [← hG i z, hw0 i z c, Nat.min_eq_left b1, Nat.min_eq_left (by omega)]
    · rw [← hG i z, hw1 i z c]
theorem rs_du124 {post : Int32 → St2 → Prop} {t c : Nat} {rk : Nat → Nat} (k : rs_ok g A B l) (kc : rs_ok c A B l) (ht : t < 12) (h13 : ∀ i, i < 144 → a13 i = nI (rs_R g A B l i)) (h14 : ∀ p, p < 12 → a14 p = nI (rk p) ∧ rk p < 12)
    (hw0 : ∀ u p, u < 12 → p < 12 → rk p ≤ rk u → rs_R c A B l (p * 12 + u) = 1000000) (hw1 : ∀ u p, u < 12 → p < 12 → rk u < rk p → rs_R c A B l (p * 12 + u) = rs_R g A B l (p * 12 + u))
    (H : ∀ b9 b10 : Nat → Int32, (∀ p, p < 12 → b9 p = nI (rs_D c A B l p t)) → wpX_shortestMeeting (fun r => post r (f0, h0, a1, a2, a3, a4, a5, a6, a7, a8, b9, b10, a11, a12, a13, a14, a15, a16, a17, a18, a19, a20, a21, a22)) (f0, h0, a1, a2, a3, a4, a5, a6, a7, a8, b9, b10, a11, a12, a13, a14, a15, a16, a17, a18, a19, a20, a21, a22)) :
    ∀ (n : Nat) (r : Int32) (b9 b10 : Nat → Int32), rs_cnt b10 12 < n → rs_Q (fun p => rs_D c A B l p t) t r b9 b10 → wX_distanceUp_124 post f0 h0 n r a1 a2 a3 a4 a5 a6 a7 a8 b9 b10 a11 a12 a13 a14 a15 a16 a17 a18 a19 a20 a21 a22 := by
  intro n
  induction n with
  | zero => intro r b9 b10 hn; exact absurd hn (by omega)
  | succ n ih =>
    intro r b9 b10 hn hQ
    rcases hQ with ⟨e, q1, q2, q3⟩ | ⟨u, e, hO, hI⟩
    · subst e
      exact br_t (by decide) (H b9 b10 q2)
    · subst e
      have hu := hO.1
      have hc := rs_cnt_upd hu hO.2.1
      obtain ⟨F, f1, f2, f3, f4, _⟩ := rs_phase (rs_TB kc ht) hO hI
      refine br_f (nI_pos (by omega)) ⟨pk_in u 12 hu, nm_r (e' := upd b10 u 1) (by rw [nI_clamp (by omega)]) ⟨13, ?_⟩⟩
      refine rs_du138 hu f2 h13 (rs_Rle k) h14 (fun p hp => hw0 u p hu hp) (fun p hp => hw1 u p hu hp) f3 (fun c9 hc9 => ?_) 13 0 b9 (by omega) (by omega) (fun j hj => absurd hj (by omega)) (fun j _ hj => f1 j hj)
      exact rs_openB ht (fun p _ => rs_Dle kc p t) (f4 c9 hc9) (fun r' hr' => ih r' c9 _ (by omega) hr')
theorem rs_du11 {post : Int32 → St2 → Prop} {s c : Nat} {rk : Nat → Nat} (k : rs_ok g A B l) (kc : rs_ok c A B l) (hs : s < 12) (h13 : ∀ i, i < 144 → a13 i = nI (rs_R g A B l i)) (h14 : ∀ p, p < 12 → a14 p = nI (rk p) ∧ rk p < 12)
    (hw0 : ∀ u p, u < 12 → p < 12 → rk p ≤ rk u → rs_R c A B l (u * 12 + p) = 1000000) (hw1 : ∀ u p, u < 12 → p < 12 → rk u < rk p → rs_R c A B l (u * 12 + p) = rs_R g A B l (u * 12 + p))
    (H : ∀ b7 b8 : Nat → Int32, (∀ p, p < 12 → b7 p = nI (rs_D c A B l s p)) → wpX_nearestOpenBack (fun r => ∃ n, wX_distanceUp_124 post f0 h0 n r a1 a2 a3 a4 a5 a6 b7 b8 a9 a10 a11 a12 a13 a14 a15 a16 a17 a18 a19 a20 a21 a22) (f0, h0, a1, a2, a3, a4, a5, a6, b7, b8, a9, a10, a11, a12, a13, a14, a15, a16, a17, a18, a19, a20, a21, a22)) :
    ∀ (n : Nat) (r : Int32) (b7 b8 : Nat → Int32), rs_cnt b8 12 < n → rs_Q (fun p => rs_D c A B l s p) s r b7 b8 → wX_distanceUp_11 post f0 h0 n r a1 a2 a3 a4 a5 a6 b7 b8 a9 a10 a11 a12 a13 a14 a15 a16 a17 a18 a19 a20 a21 a22 := by
  intro n
  induction n with
  | zero => intro r b7 b8 hn; exact absurd hn (by omega)
  | succ n ih =>
    intro r b7 b8 hn hQ
    rcases hQ with ⟨e, q1, q2, q3⟩ | ⟨u, e, hO, hI⟩
    · subst e
      exact br_t (by decide) (H b7 b8 q2)
    · subst e
      have hu := hO.1
      have hc := rs_cnt_upd hu hO.2.1
      obtain ⟨F, f1, f2, f3, f4, _⟩ := rs_phase (rs_TF kc s) hO hI
      refine br_f (nI_pos (by omega)) ⟨pk_in u 12 hu, nm_r (e' := upd b8 u 1) (by rw [nI_clamp (by omega)]) ⟨13, ?_⟩⟩
      refine rs_du25 hu f2 h13 (rs_Rle k) h14 (fun p hp => hw0 u p hu hp) (fun p hp => hw1 u p hu hp) f3 (fun c7 hc7 => ?_) 13 0 b7 (by omega) (by omega) (fun j hj => absurd hj (by omega)) (fun j _ hj => f1 j hj)
      exact rs_openF hs (fun p _ => rs_Dle kc s p) (f4 c7 hc7) (fun r' hr' => ih r' c7 _ (by omega) hr')
theorem rs_distanceUp {post : Int32 → St2 → Prop} {s t : Nat} (k : rs_ok g A B l) (hH : rs_H g A B l a13 a14) (hs : s < 12) (ht : t < 12)
    (H : ∀ b7 b8 b9 b10 : Nat → Int32, post (nI (rs_D g A B l s t)) (f0, h0, a1, a2, a3, a4, a5, a6, b7, b8, b9, b10, a11, a12, a13, a14, a15, a16, a17, a18, a19, a20, a21, a22)) : wpX_distanceUp post (f0, h0, a1, a2, a3, a4, a5, a6, a7, a8, a9, a10, a11, a12, a13, a14, a15, a16, a17, a18, a19, a20, a21, a22) (nI s) (nI t) := by
  obtain ⟨h13, rk, h14, hinj⟩ := hH
  have k' := k
  obtain ⟨kg, kA, kB, kAB, kl, kl2⟩ := k'
  have hrk : rk A ≠ rk B := fun e => kAB (hinj A B kA kB e)
  -- c1: the road leads up; c2: it leads down
  obtain ⟨c1, c2, hc⟩ : ∃ c1 c2 : Nat, (rk A < rk B ∧ c1 = g ∧ c2 = 0) ∨ (rk B < rk A ∧ c1 = 0 ∧ c2 = g) := by
    rcases Nat.lt_or_ge (rk A) (rk B) with c | c
    · exact ⟨g, 0, Or.inl ⟨c, rfl, rfl⟩⟩
    · exact ⟨0, g, Or.inr ⟨by omega, rfl, rfl⟩⟩
  have k1 : rs_ok c1 A B l := ⟨by omega, kA, kB, kAB, kl, kl2⟩
  have k2 : rs_ok c2 A B l := ⟨by omega, kA, kB, kAB, kl, kl2⟩
  have u0 : ∀ u p, u < 12 → p < 12 → rk p ≤ rk u → rs_R c1 A B l (u * 12 + p) = 1000000 := by
    intro u p hu hp c
    rcases rs_Rc k1 (s := u) hp with h | h
    · obtain ⟨h1, h2, h3, _⟩ := h
      rw [h2, h3] at c
      omega
    · exact h.2
  have u1 : ∀ u p, u < 12 → p < 12 → rk u < rk p → rs_R c1 A B l (u * 12 + p) = rs_R g A B l (u * 12 + p) := by
    intro u p hu hp c
    rcases rs_Rc k1 (s := u) hp with h | h
    · rcases rs_Rc k (s := u) hp with h' | h'
      · rw [h.2.2.2, h'.2.2.2]
      · exact absurd ⟨by omega, h.2.1, h.2.2.1⟩ h'.1
    · rcases rs_Rc k (s := u) hp with h' | h'
      · obtain ⟨h1, h2, h3, _⟩ := h'
        rw [h2, h3] at c
        exact absurd ⟨by omega, h2, h3⟩ h.1
      · rw [h.2, h'.2]
  have d0 : ∀ u p, u < 12 → p < 12 → rk p ≤ rk u → rs_R c2 A B l (p * 12 + u) = 1000000 := by
    intro u p hu hp c
    rcases rs_Rc k2 (s := p) hu with h | h
    · obtain ⟨h1, h2, h3, _⟩ := h
      rw [h2, h3] at c
      omega
    · exact h.2
  have d1 : ∀ u p, u < 12 → p < 12 → rk u < rk p → rs_R c2 A B l (p * 12 + u) = rs_R g A B l (p * 12 + u) := by
    intro u p hu hp c
    rcases rs_Rc k2 (s := p) hu with h | h
    · rcases rs_Rc k (s := p) hu with h' | h'
      · rw [h.2.2.2, h'.2.2.2]
      · exact absurd ⟨by omega, h.2.1, h.2.2.1⟩ h'.1
    · rcases rs_Rc k (s := p) hu with h' | h'
      · obtain ⟨h1, h2, h3, _⟩ := h'
        rw [h2, h3] at c
        exact absurd ⟨by omega, h2, h3⟩ h.1
      · rw [h.2, h'.2]
  unfold wpX_distanceUp
  dsimp only
  refine rs_startBoth hs ht (fun b7 b8 b9 b10 h7 h8 h9 h10 => ?_)
  refine rs_openF hs (E := fun p => rs_D c1 A B l s p) (fun p _ => rs_Dle k1 s p) (Or.inl ⟨h8 s hs, h7⟩) (fun r hr => ⟨13, ?_⟩)
  refine rs_du11 k k1 hs h13 h14 u0 u1 (fun e7 e8 he7 => ?_) 13 r b7 b8 (by have := rs_cnt_le b8 12; omega) hr
  refine rs_openB ht (E := fun p => rs_D c2 A B l p t) (fun p _ => rs_Dle k2 p t) (Or.inl ⟨h10 t ht, h9⟩) (fun r' hr' => ⟨13, ?_⟩)
  refine rs_du124 k k2 ht h13 h14 d0 d1 (fun e9 e10 he9 => ?_) 13 r' b9 b10 (by have := rs_cnt_le b10 12; omega) hr'
  refine rs_meet he7 he9 (fun p _ => rs_Dle k1 s p) (fun p _ => rs_Dle k2 p t) (fun M m1 m2 m3 => ?_)
  have lo : rs_D g A B l s t ≤ M := by
    have d := rs_Dle k s t
    rcases m3 with e | ⟨p, hp, e⟩
    · omega
    · have t1 : rs_D g A B l s p ≤ rs_D c1 A B l s p := by
        rcases rs_Dc g A B l s p with f | f | f <;> rcases rs_Dc c1 A B l s p with f' | f' | f' <;> omega
      have t2 : rs_D g A B l p t ≤ rs_D c2 A B l p t := by
        rcases rs_Dc g A B l p t with f | f | f <;> rcases rs_Dc c2 A B l p t with f' | f' | f' <;> omega
      have t3 := rs_tri k s p t
      omega
  have hi : M ≤ rs_D g A B l s t := by
    rcases rs_Dc g A B l s t with c | c | c
    · have o := m2 s hs
      rw [rs_Ds, ← c.1, rs_Ds] at o
      omega
    · obtain ⟨_, cg, cs, ct, cD⟩ := c
      rcases hc with ⟨_, x1, x2⟩ | ⟨_, x1, x2⟩
      · have o := m2 t ht
        rw [rs_Ds, x1] at o
        omega
      · have o := m2 s hs
        rw [rs_Ds, x2] at o
        omega
    · omega
  rw [show M = rs_D g A B l s t by omega]
  exact H e7 e8 e9 e10
end
end
section
def rs_Y (g A B l e : Nat) (x4 x13 x14 x15 x16 x18 x19 x20 x22 : Nat → Int32) : Prop := (∀ i, i < 144 → x4 i = nI (rs_R g A B l i)) ∧ (e = 2 → rs_H g A B l x13 x14) ∧ (e = 3 → rs_LB g A B l x15 x16) ∧ (e = 4 → (∀ j, j < 36 → rs_L (x18 j)) ∧ (∀ j, j < 36 → rs_L (x19 j))) ∧ (e = 5 → g = 1 → x20 0 = nI (2 ^ (B / 3))) ∧ (e = 6 → ∀ j, j < 144 → rs_C g A B l j (x22 j))
def rs_pt (x : Int32) (n : Nat) : Prop := ∃ j, j < n ∧ x = nI j
def rs_ans (d : Nat) : Int32 := if d < 1000000 then nI d else -3
theorem rs_ptN {x : Int32} {n : Nat} (hn : n < 2 ^ 31) (h : x < 0 ∨ nI n ≤ x) : ¬ rs_pt x n := by
  intro ⟨j, hj, e⟩
  rcases h with c | c
  · rw [e] at c; exact nI_pos (by omega) c
  · rw [e] at c; exact nI_ge hj hn c
section
variable {f0 h0 : Int32} {a1 a2 a3 a4 a5 a6 a7 a8 a9 a10 a11 a12 a13 a14 a15 a16 a17 a18 a19 a20 a21 a22 : Nat → Int32}
variable {g A B l : Nat}
theorem rs_isP {post : Int32 → Prop} {x : Int32} (H1 : ∀ j, j < 12 → x = nI j → post 1) (H0 : ¬ rs_pt x 12 → post 0) : wpX_isPoint post () x := by
  unfold wpX_isPoint
  rcases pk_ix x (n := 12) (by omega) with c | c | ⟨j, hj, e⟩
  · exact br_t c (H0 (rs_ptN (by omega) (Or.inl c)))
  · exact br_c (fun _ => H0 (rs_ptN (by omega) (Or.inr c))) (fun _ => br_t c (H0 (rs_ptN (by omega) (Or.inr c))))
  · subst e
    exact br_f (nI_pos (by omega)) (br_f (nI_ge (b := 12) hj (by decide)) (H1 j hj rfl))
theorem rs_isE {post : Int32 → Prop} {x : Int32} (H1 : ∀ j, j < 7 → x = nI j → post 1) (H0 : ¬ rs_pt x 7 → post 0) : wpX_isEngine post () x := by
  unfold wpX_isEngine
  rcases pk_ix x (n := 7) (by omega) with c | c | ⟨j, hj, e⟩
  · exact br_t c (H0 (rs_ptN (by omega) (Or.inl c)))
  · exact br_c (fun _ => H0 (rs_ptN (by omega) (Or.inr c))) (fun _ => br_t c (H0 (rs_ptN (by omega) (Or.inr c))))
  · subst e
    exact br_f (nI_pos (by omega)) (br_f (nI_ge (b := 7) hj (by decide)) (H1 j hj rfl))
theorem rs_prepare {post : St2 → Prop} {e : Nat} (he : e < 7) (hN : rs_N g A B l f0 a1 a2 a3)
    (H : ∀ b4 b7 b8 b9 b10 b13 b14 b15 b16 b17 b18 b19 b20 b21 b22 : Nat → Int32, rs_Y g A B l e b4 b13 b14 b15 b16 b18 b19 b20 b22 → post (f0, h0, a1, a2, a3, b4, a5, a6, b7, b8, b9, b10, a11, a12, b13, b14, b15, b16, b17, b18, b19, b20, b21, b22)) : wpX_prepare post (f0, h0, a1, a2, a3, a4, a5, a6, a7, a8, a9, a10, a11, a12, a13, a14, a15, a16, a17, a18, a19, a20, a21, a22) (nI e) := by
  unfold wpX_prepare
  dsimp only
  refine rs_layRoads hN (fun b4 h4 => ?_)
  refine pk_eq e 2 (fun c => ?_) (fun c2 => pk_eq e 3 (fun c => ?_) (fun c3 => pk_eq e 4 (fun c => ?_) (fun c4 => pk_eq e 5 (fun c => ?_) (fun c5 => pk_eq e 6 (fun c => ?_) (fun c6 => ?_)))))
  · refine rs_layHierarchy hN.1 h4 (fun b13 b14 h => ?_)
    exact H b4 a7 a8 a9 a10 b13 b14 a15 a16 a17 a18 a19 a20 a21 a22 ⟨h4, fun _ => h, fun z => absurd z (by omega), fun z => absurd z (by omega), fun z => absurd z (by omega), fun z => absurd z (by omega)⟩
  · refine rs_layLabels hN.1 h4 (fun b7 b8 b9 b10 b15 b16 h => ?_)
    exact H b4 b7 b8 b9 b10 a13 a14 b15 b16 a17 a18 a19 a20 a21 a22 ⟨h4, fun z => absurd z (by omega), fun _ => h, fun z => absurd z (by omega), fun z => absurd z (by omega), fun z => absurd z (by omega)⟩
  · refine rs_layLandmarks hN.1 h4 (fun b7 b8 b9 b10 b17 b18 b19 h h' => ?_)
    exact H b4 b7 b8 b9 b10 a13 a14 a15 a16 b17 b18 b19 a20 a21 a22 ⟨h4, fun z => absurd z (by omega), fun z => absurd z (by omega), fun _ => ⟨h, h'⟩, fun z => absurd z (by omega), fun z => absurd z (by omega)⟩
  · refine rs_layFlags hN h4 (fun b7 b8 b9 b10 b20 h => ?_)
    exact H b4 b7 b8 b9 b10 a13 a14 a15 a16 a17 a18 a19 b20 a21 a22 ⟨h4, fun z => absurd z (by omega), fun z => absurd z (by omega), fun z => absurd z (by omega), fun _ => h, fun z => absurd z (by omega)⟩
  · refine rs_layCells hN h4 (fun b21 b22 h => ?_)
    exact H b4 a7 a8 a9 a10 a13 a14 a15 a16 a17 a18 a19 a20 b21 b22 ⟨h4, fun z => absurd z (by omega), fun z => absurd z (by omega), fun z => absurd z (by omega), fun z => absurd z (by omega), fun _ => h⟩
  · exact H b4 a7 a8 a9 a10 a13 a14 a15 a16 a17 a18 a19 a20 a21 a22 ⟨h4, fun z => absurd z (by omega), fun z => absurd z (by omega), fun z => absurd z (by omega), fun z => absurd z (by omega), fun z => absurd z (by omega)⟩
theorem rs_distanceBy {post : Int32 → St2 → Prop} {e s t : Nat} (he : e < 7) (hs : s < 12) (ht : t < 12) (hN : rs_N g A B l f0 a1 a2 a3) (hY : rs_Y g A B l e a4 a13 a14 a15 a16 a18 a19 a20 a22)
    (H : ∀ (h1 : Int32) (b7 b8 b9 b10 b11 b12 : Nat → Int32), post (nI (rs_D g A B l s t)) (f0, h1, a1, a2, a3, a4, a5, a6, b7, b8, b9, b10, b11, b12, a13, a14, a15, a16, a17, a18, a19, a20, a21, a22)) : wpX_distanceBy post (f0, h0, a1, a2, a3, a4, a5, a6, a7, a8, a9, a10, a11, a12, a13, a14, a15, a16, a17, a18, a19, a20, a21, a22) (nI e) (nI s) (nI t) := by
  obtain ⟨h4, y2, y3, y4, y5, y6⟩ := hY
  unfold wpX_distanceBy
  dsimp only
  refine br_f (nI_pos (by omega)) (pk_lt 5 e (fun c => ?_) (fun c => pk_eq e 0 (fun c0 => ?_) (fun c0 => pk_eq e 1 (fun c1 => ?_) (fun c1 => pk_eq e 2 (fun c2 => ?_) (fun c2 => pk_eq e 3 (fun c3 => ?_) (fun c3 => pk_eq e 4 (fun c4 => ?_) (fun c4 => pk_eq e 5 (fun c5 => ?_) (fun c5 => trivial))))))))
  · exact rs_distanceOverCells hN.1 h4 (y6 (by omega)) hs ht (fun b7 b8 b9 b10 => H h0 b7 b8 b9 b10 a11 a12)
  · refine rs_searchFrom hN hs (fun b7 b8 b11 b12 hb => ⟨pk_in t 12 ht, ?_⟩)
    dsimp only
    rw [rs_rd rfl (by omega) (hb t ht)]
    exact H 0 b7 b8 a9 a10 b11 b12
  · exact rs_distanceFromBoth hN.1 hs ht h4 (fun b7 b8 b9 b10 => H h0 b7 b8 b9 b10 a11 a12)
  · exact rs_distanceUp hN.1 (y2 c2) hs ht (fun b7 b8 b9 b10 => H h0 b7 b8 b9 b10 a11 a12)
  · exact rs_distanceByLabels hN.1 hs ht (y3 c3) (H h0 a7 a8 a9 a10 a11 a12)
  · exact rs_distanceWithLandmarks hN.1 h4 (y4 c4).1 (y4 c4).2 hs ht (fun b7 b8 b9 b10 => H h0 b7 b8 b9 b10 a11 a12)
  · exact rs_distanceByFlags hN (y5 c5) hs ht (fun b7 b8 b11 b12 => H 0 b7 b8 a9 a10 b11 b12)
theorem rs_distance {post : Int32 → St2 → Prop} {p0 p1 p2 : Int32} (hN : rs_N g A B l f0 a1 a2 a3)
    (H0 : ¬ (rs_pt p0 7 ∧ rs_pt p1 12 ∧ rs_pt p2 12) → post (-1) (f0, h0, a1, a2, a3, a4, a5, a6, a7, a8, a9, a10, a11, a12, a13, a14, a15, a16, a17, a18, a19, a20, a21, a22))
    (H1 : ∀ e s t, e < 7 → s < 12 → t < 12 → p0 = nI e → p1 = nI s → p2 = nI t → ∀ (h1 : Int32) (b4 b7 b8 b9 b10 b11 b12 b13 b14 b15 b16 b17 b18 b19 b20 b21 b22 : Nat → Int32), post (rs_ans (rs_D g A B l s t)) (f0, h1, a1, a2, a3, b4, a5, a6, b7, b8, b9, b10, b11, b12, b13, b14, b15, b16, b17, b18, b19, b20, b21, b22)) : wpX_distance post (f0, h0, a1, a2, a3, a4, a5, a6, a7, a8, a9, a10, a11, a12, a13, a14, a15, a16, a17, a18, a19, a20, a21, a22) p0 p1 p2 := by
  unfold wpX_distance
  dsimp only
  refine rs_isE (fun e he ee => br_f (by decide) ?_) (fun c => br_t rfl (H0 (fun z => c z.1)))
  refine rs_isP (fun s hs es => br_f (by decide) ?_) (fun c => br_t rfl (H0 (fun z => c z.2.1)))
  refine rs_isP (fun t ht et => br_f (by decide) ?_) (fun c => br_t rfl (H0 (fun z => c z.2.2)))
  have H1' := H1 e s t he hs ht ee es et
  subst ee es et
  refine rs_prepare he hN (fun b4 b7 b8 b9 b10 b13 b14 b15 b16 b17 b18 b19 b20 b21 b22 hY => ?_)
  refine rs_distanceBy he hs ht hN hY (fun h1 c7 c8 c9 c10 c11 c12 => ?_)
  have hd := rs_Dle hN.1 s t
  refine pk_le 1000000 (rs_D g A B l s t) (fun c => ?_) (fun c => ?_)
  · have o := H1' h1 b4 c7 c8 c9 c10 c11 c12 b13 b14 b15 b16 b17 b18 b19 b20 b21 b22
    unfold rs_ans at o
    rw [if_neg (by omega)] at o
    exact o
  · have o := H1' h1 b4 c7 c8 c9 c10 c11 c12 b13 b14 b15 b16 b17 b18 b19 b20 b21 b22
    unfold rs_ans at o
    rw [if_pos (by omega)] at o
    exact o
theorem rs_fa7 {post : St2 → Prop} {e : Nat} (he : e < 7) (hN : rs_N g A B l f0 a1 a2 a3) (hY : rs_Y g A B l e a4 a13 a14 a15 a16 a18 a19 a20 a22)
    (H : ∀ (h1 : Int32) (b5 b7 b8 b9 b10 b11 b12 : Nat → Int32), (∀ j, j < 144 → b5 j = nI (rs_D g A B l (j / 12) (j % 12))) → post (f0, h1, a1, a2, a3, a4, b5, a6, b7, b8, b9, b10, b11, b12, a13, a14, a15, a16, a17, a18, a19, a20, a21, a22)) :
    ∀ (n i : Nat) (h1 : Int32) (b5 b7 b8 b9 b10 b11 b12 : Nat → Int32), i ≤ 144 → 144 - i < n → (∀ j, j < i → b5 j = nI (rs_D g A B l (j / 12) (j % 12))) → wX_findAll_7 post (nI e) n (nI i) f0 h1 a1 a2 a3 a4 b5 a6 b7 b8 b9 b10 b11 b12 a13 a14 a15 a16 a17 a18 a19 a20 a21 a22 := by
  intro n
  induction n with
  | zero => intro i h1 b5 b7 b8 b9 b10 b11 b12 hi hn; exact absurd hn (by omega)
  | succ n ih =>
    intro i h1 b5 b7 b8 b9 b10 b11 b12 hi hn h
    refine pk_le 144 i (fun z => H h1 b5 b7 b8 b9 b10 b11 b12 (fun j hj => h j (by omega))) (fun z => ?_)
    rw [rs_md (show i < 2 ^ 31 by omega), rs_dv (show i < 2 ^ 31 by omega)]
    refine ⟨by decide, by decide, rs_distanceBy he (by omega) (by omega) hN hY (fun h2 c7 c8 c9 c10 c11 c12 => ?_)⟩
    have hd := rs_Dle hN.1 (i / 12) (i % 12)
    have go : ∀ x, x = nI (rs_D g A B l (i / 12) (i % 12)) → wX_findAll_7 post (nI e) n (nI (i + 1)) f0 h2 a1 a2 a3 a4 (upd b5 i x) a6 c7 c8 c9 c10 c11 c12 a13 a14 a15 a16 a17 a18 a19 a20 a21 a22 :=
      fun x ex => ih (i + 1) h2 _ c7 c8 c9 c10 c11 c12 (by omega) (by omega) (rs_fill (P := fun p x => x = nI (rs_D g A B l (p / 12) (p % 12))) h ex)
    rw [nI_clamp (show i < 2 ^ 31 by omega)]
    refine pk_le 1000000 (rs_D g A B l (i / 12) (i % 12)) (fun c => ⟨pk_in i 144 z, nm_e (nm_r (nI_1 i) (go _ ?_))⟩) (fun c => ⟨pk_in i 144 z, nm_e (nm_r (nI_1 i) (go _ rfl))⟩)
    rw [show rs_D g A B l (i / 12) (i % 12) = 1000000 by omega]
    rfl
theorem rs_findAll {post : St2 → Prop} {e : Nat} (he : e < 7) (hN : rs_N g A B l f0 a1 a2 a3)
    (H : ∀ (h1 : Int32) (b4 b5 b7 b8 b9 b10 b11 b12 b13 b14 b15 b16 b17 b18 b19 b20 b21 b22 : Nat → Int32), (∀ j, j < 144 → b5 j = nI (rs_D g A B l (j / 12) (j % 12))) → post (f0, h1, a1, a2, a3, b4, b5, a6, b7, b8, b9, b10, b11, b12, b13, b14, b15, b16, b17, b18, b19, b20, b21, b22)) : wpX_findAll post (f0, h0, a1, a2, a3, a4, a5, a6, a7, a8, a9, a10, a11, a12, a13, a14, a15, a16, a17, a18, a19, a20, a21, a22) (nI e) := by
  unfold wpX_findAll
  dsimp only
  refine rs_prepare he hN (fun b4 b7 b8 b9 b10 b13 b14 b15 b16 b17 b18 b19 b20 b21 b22 hY => ⟨145, ?_⟩)
  exact rs_fa7 he hN hY (fun h1 b5 c7 c8 c9 c10 c11 c12 hb => H h1 b4 b5 c7 c8 c9 c10 c11 c12 b13 b14 b15 b16 b17 b18 b19 b20 b21 b22 hb) 145 0 h0 a5 b7 b8 b9 b10 a11 a12 (by omega) (by omega) (fun j hj => absurd hj (by omega))
end
end
section
/-! a set of points, built bit by bit -/
def rs_ac (c : Nat → Bool) : Nat → Int32
  | 0 => 0
  | i + 1 => rs_ac c i ||| (if c i = true then (1 : Int32) <<< (nI i &&& 31) else 0)
theorem rs_ac_eq {c c' : Nat → Bool} : ∀ n, (∀ p, p < n → c p = c' p) → rs_ac c n = rs_ac c' n := by
  intro n
  induction n with
  | zero => intro _; rfl
  | succ n ih =>
    intro h
    show rs_ac c n ||| (if c n = true then (1 : Int32) <<< (nI n &&& 31) else 0) = rs_ac c' n ||| (if c' n = true then (1 : Int32) <<< (nI n &&& 31) else 0)
    rw [ih (fun p hp => h p (by omega)), h n (by omega)]
theorem rs_acT (P Q : Bool) : ∀ s, s < 12 → ∀ b, b < 12 → rs_ac (fun p => (P && p == s) || (Q && p == b)) 12 = (if P = true then (1 : Int32) <<< (nI s &&& 31) else 0) ||| (if Q = true then (1 : Int32) <<< (nI b &&& 31) else 0) := by
  cases P <;> cases Q <;> decide +kernel
theorem rs_ac2 {c : Nat → Bool} {P Q : Prop} {s b : Nat} (hs : s < 12) (hb : b < 12) (h : ∀ p, p < 12 → (c p = true ↔ (P ∧ p = s) ∨ (Q ∧ p = b))) (dP : P ∨ ¬ P) (dQ : Q ∨ ¬ Q) :
    ∃ x y : Int32, rs_ac c 12 = x ||| y ∧ (P → x = (1 : Int32) <<< (nI s &&& 31)) ∧ (¬ P → x = 0) ∧ (Q → y = (1 : Int32) <<< (nI b &&& 31)) ∧ (¬ Q → y = 0) := by
  have key : ∀ P' Q' : Bool, (P' = true ↔ P) → (Q' = true ↔ Q) → rs_ac c 12 = (if P' = true then (1 : Int32) <<< (nI s &&& 31) else 0) ||| (if Q' = true then (1 : Int32) <<< (nI b &&& 31) else 0) := by
    intro P' Q' e1 e2
    rw [← rs_acT P' Q' s hs b hb]
    refine rs_ac_eq 12 (fun p hp => ?_)
    rw [Bool.eq_iff_iff, h p hp, Bool.or_eq_true, Bool.and_eq_true, Bool.and_eq_true, beq_iff_eq, beq_iff_eq, e1, e2]
  rcases dP with p | p
  · rcases dQ with q | q
    · exact ⟨_, _, key true true ⟨fun _ => p, fun _ => rfl⟩ ⟨fun _ => q, fun _ => rfl⟩, fun _ => if_pos rfl, fun z => absurd p z, fun _ => if_pos rfl, fun z => absurd q z⟩
    · exact ⟨_, _, key true false ⟨fun _ => p, fun _ => rfl⟩ ⟨fun z => absurd z (by decide), fun z => absurd z q⟩, fun _ => if_pos rfl, fun z => absurd p z, fun z => absurd z q, fun _ => if_neg (by decide)⟩
  · rcases dQ with q | q
    · exact ⟨_, _, key false true ⟨fun z => absurd z (by decide), fun z => absurd z p⟩ ⟨fun _ => q, fun _ => rfl⟩, fun z => absurd z p, fun _ => if_neg (by decide), fun _ => if_pos rfl, fun z => absurd q z⟩
    · exact ⟨_, _, key false false ⟨fun z => absurd z (by decide), fun z => absurd z p⟩ ⟨fun z => absurd z (by decide), fun z => absurd z q⟩, fun z => absurd z p, fun _ => if_neg (by decide), fun z => absurd z q, fun _ => if_neg (by decide)⟩
theorem rs_or0 (x : Int32) : x ||| 0 = x := by
  apply rs_bext
  intro i _
  rw [rs_bor, rs_b0, Bool.or_false]
theorem rs_0or (x : Int32) : 0 ||| x = x := by
  apply rs_bext
  intro i _
  rw [rs_bor, rs_b0, Bool.false_or]
section
variable {f0 h0 : Int32} {a1 a2 a3 a4 a5 a6 a7 a8 a9 a10 a11 a12 a13 a14 a15 a16 a17 a18 a19 a20 a21 a22 : Nat → Int32}
variable {g A B l : Nat}
/-! between -/
theorem rs_be39 {post : Int32 → St2 → Prop} {s t : Nat} (k : rs_ok g A B l) (hs : s < 12) (ht : t < 12) (h5 : ∀ j, j < 144 → a5 j = nI (rs_D g A B l (j / 12) (j % 12))) (hd : rs_D g A B l s t < 1000000)
    (H : post (rs_ac (fun p => decide (rs_D g A B l s p + rs_D g A B l p t = rs_D g A B l s t)) 12) (f0, h0, a1, a2, a3, a4, a5, a6, a7, a8, a9, a10, a11, a12, a13, a14, a15, a16, a17, a18, a19, a20, a21, a22)) :
    ∀ n i : Nat, i ≤ 12 → 12 - i < n → wX_between_39 post (nI s) (nI t) (nI (rs_D g A B l s t)) f0 h0 a1 a2 a3 a4 a5 a6 a7 a8 a9 a10 a11 a12 a13 a14 a15 a16 a17 a18 a19 a20 a21 a22 n (rs_ac (fun p => decide (rs_D g A B l s p + rs_D g A B l p t = rs_D g A B l s t)) i) (nI i) := by
  intro n
  induction n with
  | zero => intro i hi hn; exact absurd hn (by omega)
  | succ n ih =>
    intro i hi hn
    refine pk_le 12 i (fun z => ?_) (fun z => ?_)
    · rw [show i = 12 by omega]
      exact H
    · have e1 : a5 (s * 12 + i) = nI (rs_D g A B l s i) := by
        rw [h5 _ (by omega), show (s * 12 + i) / 12 = s by omega, show (s * 12 + i) % 12 = i by omega]
      have e2 : a5 (i * 12 + t) = nI (rs_D g A B l i t) := by
        rw [h5 _ (by omega), show (i * 12 + t) / 12 = i by omega, show (i * 12 + t) % 12 = t by omega]
      have d1 := rs_Dle k s i
      have d2 := rs_Dle k i t
      have nx := ih (i + 1) (by omega) (by omega)
      refine pk_le 1000000 (rs_D g A B l s t) (fun c => absurd c (by omega)) (fun _ => ?_)
      rw [rs_rd (rs_ix s i) (by omega) e1, rs_rd (rs_ix i t) (by omega) e2, nI_add]
      refine ⟨pk_in (s * 12 + i) 144 (by omega) (rs_ix s i), pk_in (i * 12 + t) 144 (by omega) (rs_ix i t), pk_eq (rs_D g A B l s i + rs_D g A B l i t) (rs_D g A B l s t) (fun c => ?_) (fun c => ?_)⟩
      · refine nm_r (e' := rs_ac (fun p => decide (rs_D g A B l s p + rs_D g A B l p t = rs_D g A B l s t)) (i + 1)) ?_ (nm_r (nI_1 i) nx)
        show _ = rs_ac (fun p => decide (rs_D g A B l s p + rs_D g A B l p t = rs_D g A B l s t)) i ||| (if decide (rs_D g A B l s i + rs_D g A B l i t = rs_D g A B l s t) = true then (1 : Int32) <<< (nI i &&& 31) else 0)
        rw [if_pos (decide_eq_true c)]
      · refine nm_r (e' := rs_ac (fun p => decide (rs_D g A B l s p + rs_D g A B l p t = rs_D g A B l s t)) (i + 1)) ?_ (nm_r (nI_1 i) nx)
        show _ = rs_ac (fun p => decide (rs_D g A B l s p + rs_D g A B l p t = rs_D g A B l s t)) i ||| (if decide (rs_D g A B l s i + rs_D g A B l i t = rs_D g A B l s t) = true then (1 : Int32) <<< (nI i &&& 31) else 0)
        rw [if_neg (by rw [decide_eq_true_eq]; exact c)]
theorem rs_between {post : Int32 → St2 → Prop} {p0 p1 : Int32} (hN : rs_N g A B l f0 a1 a2 a3)
    (H0 : ¬ (rs_pt p0 12 ∧ rs_pt p1 12) → post (-1) (f0, h0, a1, a2, a3, a4, a5, a6, a7, a8, a9, a10, a11, a12, a13, a14, a15, a16, a17, a18, a19, a20, a21, a22))
    (H1 : ∀ s t, s < 12 → t < 12 → p0 = nI s → p1 = nI t → ∀ r : Int32, (s = t → r = (1 : Int32) <<< (nI s &&& 31)) → (s ≠ t → g = 1 ∧ s = A ∧ t = B → r = ((1 : Int32) <<< (nI s &&& 31)) ||| ((1 : Int32) <<< (nI t &&& 31))) → (s ≠ t → ¬ (g = 1 ∧ s = A ∧ t = B) → r = 0) → ∀ (h1 : Int32) (b4 b5 b7 b8 b9 b10 b11 b12 b13 b14 b15 b16 b17 b18 b19 b20 b21 b22 : Nat → Int32), post r (f0, h1, a1, a2, a3, b4, b5, a6, b7, b8, b9, b10, b11, b12, b13, b14, b15, b16, b17, b18, b19, b20, b21, b22)) : wpX_between post (f0, h0, a1, a2, a3, a4, a5, a6, a7, a8, a9, a10, a11, a12, a13, a14, a15, a16, a17, a18, a19, a20, a21, a22) p0 p1 := by
  have k := hN.1
  have k' := k
  obtain ⟨kg, kA, kB, kAB, kl, kl2⟩ := k'
  unfold wpX_between
  dsimp only
  refine rs_isP (fun s hs es => br_f (by decide) ?_) (fun c => br_t rfl (H0 (fun z => c z.1)))
  refine rs_isP (fun t ht et => br_f (by decide) ?_) (fun c => br_t rfl (H0 (fun z => c z.2)))
  have H1' := H1 s t hs ht es et
  subst es et
  refine rs_findAll (e := 2) (by omega) hN (fun h1 b4 b5 b7 b8 b9 b10 b11 b12 b13 b14 b15 b16 b17 b18 b19 b20 b21 b22 hb => ?_)
  have e1 : b5 (s * 12 + t) = nI (rs_D g A B l s t) := by
    rw [hb _ (by omega), show (s * 12 + t) / 12 = s by omega, show (s * 12 + t) % 12 = t by omega]
  refine ⟨pk_in (s * 12 + t) 144 (by omega) (rs_ix s t), nm_r (rs_rd (rs_ix s t) (by omega) e1) ⟨13, ?_⟩⟩
  have fin : ∀ r : Int32, (s = t → r = (1 : Int32) <<< (nI s &&& 31)) → (s ≠ t → g = 1 ∧ s = A ∧ t = B → r = ((1 : Int32) <<< (nI s &&& 31)) ||| ((1 : Int32) <<< (nI t &&& 31))) → (s ≠ t → ¬ (g = 1 ∧ s = A ∧ t = B) → r = 0) → post r (f0, h1, a1, a2, a3, b4, b5, a6, b7, b8, b9, b10, b11, b12, b13, b14, b15, b16, b17, b18, b19, b20, b21, b22) := fun r r1 r2 r3 => H1' r r1 r2 r3 h1 b4 b5 b7 b8 b9 b10 b11 b12 b13 b14 b15 b16 b17 b18 b19 b20 b21 b22
  have small : rs_D g A B l s t < 1000000 → wX_between_39 post (nI s) (nI t) (nI (rs_D g A B l s t)) f0 h1 a1 a2 a3 b4 b5 a6 b7 b8 b9 b10 b11 b12 b13 b14 b15 b16 b17 b18 b19 b20 b21 b22 13 0 0 := by
    intro hd
    refine rs_be39 k hs ht hb hd ?_ 13 0 (by omega) (by omega)
    -- the points of the shortest way: its two ends
    obtain ⟨x, y, exy, x1, x2, y1, y2⟩ := rs_ac2 (c := fun p => decide (rs_D g A B l s p + rs_D g A B l p t = rs_D g A B l s t)) (P := True) (Q := s ≠ t) hs ht (by
      intro p hp
      rw [decide_eq_true_eq]
      have hq : rs_D g A B l s p + rs_D g A B l p t = rs_D g A B l s t ↔ (p = s ∨ (s ≠ t ∧ p = t)) := by
        rcases rs_Dc g A B l s t with c | c | c
        · rcases rs_Dc g A B l s p with f | f | f <;> rcases rs_Dc g A B l p t with f' | f' | f' <;> constructor <;> intro hh <;> omega
        · rcases rs_Dc g A B l s p with f | f | f <;> rcases rs_Dc g A B l p t with f' | f' | f' <;> constructor <;> intro hh <;> omega
        · omega
      exact hq.trans ⟨fun z => z.elim (fun a => Or.inl ⟨trivial, a⟩) Or.inr, fun z => z.elim (fun a => Or.inl a.2) Or.inr⟩) (Or.inl trivial) (by by_cases c : s = t; exact Or.inr (fun z => z c); exact Or.inl c)
    rw [exy, x1 trivial]
    refine fin _ (fun c => ?_) (fun c _ => ?_) (fun c c' => ?_)
    · rw [y2 (fun z => z c), rs_or0]
    · rw [y1 c]
    · rcases rs_Dc g A B l s t with f | f | f
      · exact absurd f.1 c
      · exact absurd f.2 (fun z => c' ⟨z.1, z.2.1, z.2.2.1⟩)
      · omega
  rcases rs_Dc g A B l s t with c | c | c
  · exact small (by omega)
  · exact small (by omega)
  · obtain ⟨c1, c2, c3⟩ := c
    rw [c3]
    refine pk_le 12 0 (fun z => absurd z (by omega)) (fun _ => pk_le 1000000 1000000 (fun _ => ?_) (fun z => absurd z (by omega)))
    exact fin 0 (fun z => absurd z c1) (fun _ z => absurd z c2) (fun _ _ => rfl)
/-! around -/
theorem rs_ar19 {post : Int32 → St2 → Prop} {s : Nat} {x : Int32} {c : Nat → Bool} (k : rs_ok g A B l) (hs : s < 12) (h5 : ∀ j, j < 144 → a5 j = nI (rs_D g A B l (j / 12) (j % 12))) (hc : ∀ p, p < 12 → (c p = true ↔ rs_D g A B l s p < 1000000 ∧ ¬ x < nI (rs_D g A B l s p)))
    (H : post (rs_ac c 12) (f0, h0, a1, a2, a3, a4, a5, a6, a7, a8, a9, a10, a11, a12, a13, a14, a15, a16, a17, a18, a19, a20, a21, a22)) :
    ∀ n i : Nat, i ≤ 12 → 12 - i < n → wX_around_19 post (nI s) x f0 h0 a1 a2 a3 a4 a5 a6 a7 a8 a9 a10 a11 a12 a13 a14 a15 a16 a17 a18 a19 a20 a21 a22 n (rs_ac c i) (nI i) := by
  intro n
  induction n with
  | zero => intro i hi hn; exact absurd hn (by omega)
  | succ n ih =>
    intro i hi hn
    refine pk_le 12 i (fun z => ?_) (fun z => ?_)
    · rw [show i = 12 by omega]
      exact H
    · have e1 : a5 (s * 12 + i) = nI (rs_D g A B l s i) := by
        rw [h5 _ (by omega), show (s * 12 + i) / 12 = s by omega, show (s * 12 + i) % 12 = i by omega]
      have d1 := rs_Dle k s i
      have nx := ih (i + 1) (by omega) (by omega)
      have ci := hc i z
      have off : ¬ c i = true → rs_ac c i ||| 0 = rs_ac c (i + 1) := by
        intro h
        show _ = rs_ac c i ||| (if c i = true then (1 : Int32) <<< (nI i &&& 31) else 0)
        rw [if_neg h]
      have on : c i = true → rs_ac c i ||| ((1 : Int32) <<< (nI i &&& 31)) = rs_ac c (i + 1) := by
        intro h
        show _ = rs_ac c i ||| (if c i = true then (1 : Int32) <<< (nI i &&& 31) else 0)
        rw [if_pos h]
      refine ⟨pk_in (s * 12 + i) 144 (by omega) (rs_ix s i), nm_r (rs_rd (rs_ix s i) (by omega) e1) ?_⟩
      refine pk_le 1000000 (rs_D g A B l s i) (fun c1 => nm_r (off (fun z => absurd (ci.mp z).1 (by omega))) (nm_r (nI_1 i) nx)) (fun c1 => br_c (fun c2 => nm_r (off (fun z => (ci.mp z).2 c2)) (nm_r (nI_1 i) nx)) (fun c2 => nm_r (on (ci.mpr ⟨c1, c2⟩)) (nm_r (nI_1 i) nx)))
theorem rs_around {post : Int32 → St2 → Prop} {p0 p1 : Int32} (hN : rs_N g A B l f0 a1 a2 a3)
    (H0 : ¬ rs_pt p0 12 → post (-1) (f0, h0, a1, a2, a3, a4, a5, a6, a7, a8, a9, a10, a11, a12, a13, a14, a15, a16, a17, a18, a19, a20, a21, a22))
    (H1 : ∀ s, s < 12 → p0 = nI s → ∀ x y : Int32, (¬ p1 < 0 → x = (1 : Int32) <<< (nI s &&& 31)) → (p1 < 0 → x = 0) → (g = 1 ∧ s = A ∧ ¬ p1 < nI l → y = (1 : Int32) <<< (nI B &&& 31)) → (¬ (g = 1 ∧ s = A ∧ ¬ p1 < nI l) → y = 0) → ∀ (h1 : Int32) (b4 b5 b7 b8 b9 b10 b11 b12 b13 b14 b15 b16 b17 b18 b19 b20 b21 b22 : Nat → Int32), post (x ||| y) (f0, h1, a1, a2, a3, b4, b5, a6, b7, b8, b9, b10, b11, b12, b13, b14, b15, b16, b17, b18, b19, b20, b21, b22)) : wpX_around post (f0, h0, a1, a2, a3, a4, a5, a6, a7, a8, a9, a10, a11, a12, a13, a14, a15, a16, a17, a18, a19, a20, a21, a22) p0 p1 := by
  have k := hN.1
  have k' := k
  obtain ⟨kg, kA, kB, kAB, kl, kl2⟩ := k'
  unfold wpX_around
  dsimp only
  refine rs_isP (fun s hs es => br_f (by decide) ?_) (fun c => br_t rfl (H0 c))
  have H1' := H1 s hs es
  subst es
  refine rs_findAll (e := 3) (by omega) hN (fun h1 b4 b5 b7 b8 b9 b10 b11 b12 b13 b14 b15 b16 b17 b18 b19 b20 b21 b22 hb => ⟨13, ?_⟩)
  refine rs_ar19 (c := fun p => decide (rs_D g A B l s p < 1000000 ∧ ¬ p1 < nI (rs_D g A B l s p))) k hs hb (fun p _ => by rw [decide_eq_true_eq]) ?_ 13 0 (by omega) (by omega)
  obtain ⟨x, y, exy, x1, x2, y1, y2⟩ := rs_ac2 (c := fun p => decide (rs_D g A B l s p < 1000000 ∧ ¬ p1 < nI (rs_D g A B l s p))) (P := ¬ p1 < 0) (Q := g = 1 ∧ s = A ∧ ¬ p1 < nI l) hs kB (by
    intro p hp
    rw [decide_eq_true_eq]
    rcases rs_Dc g A B l s p with f | f | f
    · rw [f.2]
      constructor
      · intro hh; exact Or.inl ⟨hh.2, f.1.symm⟩
      · intro hh
        rcases hh with hh | hh
        · exact ⟨by omega, hh.1⟩
        · exact absurd f.1 (by omega)
    · rw [f.2.2.2.2]
      constructor
      · intro hh; exact Or.inr ⟨⟨f.2.1, f.2.2.1, hh.2⟩, f.2.2.2.1⟩
      · intro hh
        rcases hh with hh | hh
        · exact absurd hh.2.symm f.1
        · exact ⟨by omega, hh.1.2.2⟩
    · rw [f.2.2]
      constructor
      · intro hh; exact absurd hh.1 (by omega)
      · intro hh
        rcases hh with hh | hh
        · exact absurd hh.2.symm f.1
        · exact absurd ⟨hh.1.1, hh.1.2.1, hh.2⟩ f.2.1) (by by_cases c : p1 < 0; exact Or.inr (fun z => z c); exact Or.inl c) (by by_cases c : g = 1 ∧ s = A ∧ ¬ p1 < nI l; exact Or.inl c; exact Or.inr c)
  rw [exy]
  exact H1' x y x1 (fun c => x2 (fun z => z c)) y1 y2 h1 b4 b5 b7 b8 b9 b10 b11 b12 b13 b14 b15 b16 b17 b18 b19 b20 b21 b22
/-! farthest -/
theorem rs_fa19 {post : Int32 → St2 → Prop} {s : Nat} (k : rs_ok g A B l) (hs : s < 12) (h5 : ∀ j, j < 144 → a5 j = nI (rs_D g A B l (j / 12) (j % 12)))
    (H : post (nI (if g = 1 ∧ s = A then l else 0)) (f0, h0, a1, a2, a3, a4, a5, a6, a7, a8, a9, a10, a11, a12, a13, a14, a15, a16, a17, a18, a19, a20, a21, a22)) :
    ∀ n i m : Nat, i ≤ 12 → 12 - i < n → m = (if g = 1 ∧ s = A ∧ B < i then l else 0) → wX_farthest_19 post (nI s) f0 h0 a1 a2 a3 a4 a5 a6 a7 a8 a9 a10 a11 a12 a13 a14 a15 a16 a17 a18 a19 a20 a21 a22 n (nI m) (nI i) := by
  have k' := k
  obtain ⟨kg, kA, kB, kAB, kl, kl2⟩ := k'
  intro n
  induction n with
  | zero => intro i m hi hn; exact absurd hn (by omega)
  | succ n ih =>
    intro i m hi hn hm
    refine pk_le 12 i (fun z => ?_) (fun z => ?_)
    · have e : m = (if g = 1 ∧ s = A then l else 0) := by
        rw [hm]
        by_cases c : g = 1 ∧ s = A
        · rw [if_pos c, if_pos ⟨c.1, c.2, by omega⟩]
        · rw [if_neg c, if_neg (fun z => c ⟨z.1, z.2.1⟩)]
      rw [e]
      exact H
    · have e1 : a5 (s * 12 + i) = nI (rs_D g A B l s i) := by
        rw [h5 _ (by omega), show (s * 12 + i) / 12 = s by omega, show (s * 12 + i) % 12 = i by omega]
      have d1 := rs_Dle k s i
      have hm2 : m ≤ 30 := by rw [hm]; split <;> omega
      refine ⟨pk_in (s * 12 + i) 144 (by omega) (rs_ix s i), nm_r (rs_rd (rs_ix s i) (by omega) e1) ?_⟩
      have keep : ¬ (g = 1 ∧ s = A ∧ i = B) → wX_farthest_19 post (nI s) f0 h0 a1 a2 a3 a4 a5 a6 a7 a8 a9 a10 a11 a12 a13 a14 a15 a16 a17 a18 a19 a20 a21 a22 n (nI m) (nI (i + 1)) := by
        intro c
        refine ih (i + 1) m (by omega) (by omega) ?_
        rw [hm]
        by_cases c' : g = 1 ∧ s = A ∧ B < i
        · rw [if_pos c', if_pos ⟨c'.1, c'.2.1, by omega⟩]
        · rw [if_neg c', if_neg (by omega)]
      refine pk_le 1000000 (rs_D g A B l s i) (fun c => nm_r (nI_1 i) (keep (fun z => ?_))) (fun c => pk_le (rs_D g A B l s i) m (fun c2 => nm_r (nI_1 i) (keep (fun z => ?_))) (fun c2 => nm_r (nI_1 i) (ih (i + 1) _ (by omega) (by omega) ?_)))
      · rcases rs_Dc g A B l s i with f | f | f <;> omega
      · rw [if_neg (by omega)] at hm
        rcases rs_Dc g A B l s i with f | f | f <;> omega
      · rcases rs_Dc g A B l s i with f | f | f
        · omega
        · rw [if_pos ⟨f.2.1, f.2.2.1, by omega⟩, f.2.2.2.2]
        · omega
theorem rs_farthest {post : Int32 → St2 → Prop} {p0 : Int32} (hN : rs_N g A B l f0 a1 a2 a3)
    (H0 : ¬ rs_pt p0 12 → post (-1) (f0, h0, a1, a2, a3, a4, a5, a6, a7, a8, a9, a10, a11, a12, a13, a14, a15, a16, a17, a18, a19, a20, a21, a22))
    (H1 : ∀ s, s < 12 → p0 = nI s → ∀ (h1 : Int32) (b4 b5 b7 b8 b9 b10 b11 b12 b13 b14 b15 b16 b17 b18 b19 b20 b21 b22 : Nat → Int32), post (nI (if g = 1 ∧ s = A then l else 0)) (f0, h1, a1, a2, a3, b4, b5, a6, b7, b8, b9, b10, b11, b12, b13, b14, b15, b16, b17, b18, b19, b20, b21, b22)) : wpX_farthest post (f0, h0, a1, a2, a3, a4, a5, a6, a7, a8, a9, a10, a11, a12, a13, a14, a15, a16, a17, a18, a19, a20, a21, a22) p0 := by
  unfold wpX_farthest
  dsimp only
  refine rs_isP (fun s hs es => br_f (by decide) ?_) (fun c => br_t rfl (H0 c))
  have H1' := H1 s hs es
  subst es
  refine rs_findAll (e := 6) (by omega) hN (fun h1 b4 b5 b7 b8 b9 b10 b11 b12 b13 b14 b15 b16 b17 b18 b19 b20 b21 b22 hb => ⟨13, ?_⟩)
  exact rs_fa19 hN.1 hs hb (H1' h1 b4 b5 b7 b8 b9 b10 b11 b12 b13 b14 b15 b16 b17 b18 b19 b20 b21 b22) 13 0 0 (by omega) (by omega) (by rw [if_neg (by omega)])
/-! over, there and back -/
theorem rs_over {post : Int32 → St2 → Prop} {p0 p1 : Int32} (hN : rs_N g A B l f0 a1 a2 a3)
    (H0 : ¬ (rs_pt p0 12 ∧ rs_pt p1 12) → post (-1) (f0, h0, a1, a2, a3, a4, a5, a6, a7, a8, a9, a10, a11, a12, a13, a14, a15, a16, a17, a18, a19, a20, a21, a22))
    (H1 : ∀ s t, s < 12 → t < 12 → p0 = nI s → p1 = nI t → ∀ (h1 : Int32) (b4 b7 b8 b9 b10 b11 b12 b13 b14 b15 b16 b17 b18 b19 b20 b21 b22 : Nat → Int32), post (if s = t then 0 else -3) (f0, h1, a1, a2, a3, b4, a5, a6, b7, b8, b9, b10, b11, b12, b13, b14, b15, b16, b17, b18, b19, b20, b21, b22)) : wpX_over post (f0, h0, a1, a2, a3, a4, a5, a6, a7, a8, a9, a10, a11, a12, a13, a14, a15, a16, a17, a18, a19, a20, a21, a22) p0 p1 p0 := by
  have k' := hN.1
  obtain ⟨kg, kA, kB, kAB, kl, kl2⟩ := k'
  unfold wpX_over
  dsimp only
  refine rs_isP (fun s hs es => br_f (by decide) ?_) (fun c => br_t rfl (H0 (fun z => c z.1)))
  refine rs_isP (fun t ht et => br_f (by decide) ?_) (fun c => br_t rfl (H0 (fun z => c z.2)))
  refine rs_isP (fun s' hs' es' => br_f (by decide) ?_) (fun c => br_t rfl (H0 (fun z => c z.1)))
  have H1' := H1 s t hs ht es et
  refine rs_distance hN (fun z => absurd ⟨⟨3, by omega, rfl⟩, ⟨s, hs, es⟩, ⟨t, ht, et⟩⟩ z) (fun e1 s1 t1 he1 hs1 ht1 ee1 es1 et1 h1 b4 b7 b8 b9 b10 b11 b12 b13 b14 b15 b16 b17 b18 b19 b20 b21 b22 => ?_)
  refine rs_distance hN (fun z => absurd ⟨⟨2, by omega, rfl⟩, ⟨t, ht, et⟩, ⟨s, hs, es⟩⟩ z) (fun e2 s2 t2 he2 hs2 ht2 ee2 es2 et2 h2 c4 c7 c8 c9 c10 c11 c12 c13 c14 c15 c16 c17 c18 c19 c20 c21 c22 => ?_)
  have q1 : s1 = s := (nI_eq (by omega) (by omega)).mp (by rw [← es1, es])
  have q2 : t1 = t := (nI_eq (by omega) (by omega)).mp (by rw [← et1, et])
  have q3 : s2 = t := (nI_eq (by omega) (by omega)).mp (by rw [← es2, et])
  have q4 : t2 = s := (nI_eq (by omega) (by omega)).mp (by rw [← et2, es])
  rw [q1, q2, q3, q4]
  have o := H1' h2 c4 c7 c8 c9 c10 c11 c12 c13 c14 c15 c16 c17 c18 c19 c20 c21 c22
  have n3 : ∀ d, d < 1000000 → ¬ nI d = -3 := by
    intro d hd e
    have := nI_pos (n := d) (by omega)
    rw [e] at this
    exact this (by decide)
  have a0 : ∀ d, d < 1000000 → rs_ans d = nI d := fun d hd => if_pos hd
  have a1' : ∀ d, ¬ d < 1000000 → rs_ans d = -3 := fun d hd => if_neg hd
  by_cases e : s = t
  · rw [if_pos e] at o
    rw [e, rs_Ds, a0 0 (by omega)]
    exact br_f (n3 0 (by omega)) (br_f (n3 0 (by omega)) o)
  · rw [if_neg e] at o
    by_cases d1 : rs_D g A B l s t < 1000000
    · have d2 : ¬ rs_D g A B l t s < 1000000 := by
        rcases rs_Dc g A B l s t with f | f | f <;> rcases rs_Dc g A B l t s with f' | f' | f' <;> omega
      rw [a0 _ d1, a1' _ d2]
      exact br_f (n3 _ d1) (br_t rfl o)
    · rw [a1' _ d1]
      exact br_t rfl o
end
end
section
/-- the road of the law: good (G), and then what g, A, B, l are -/
def rs_G (g A B l : Nat) (x0 x1 x2 : Int32) (G : Prop) : Prop := (g = 1 ∧ x0 = nI A ∧ x1 = nI B ∧ x2 = nI l ∧ G) ∨ (g = 0 ∧ ¬ G)
def rs_gd (x0 x1 x2 : Int32) : Prop := ∃ A B l : Nat, A < 12 ∧ B < 12 ∧ A ≠ B ∧ 1 ≤ l ∧ l ≤ 30 ∧ x0 = nI A ∧ x1 = nI B ∧ x2 = nI l
def rs_kD (x0 x1 x2 x3 x4 x5 : Int32) (S T G : Prop) (x8 : Int32) : Prop := (¬ (rs_pt x3 7 ∧ S ∧ T) → x8 = -1) ∧ (rs_pt x3 7 → S → T → x4 = x5 → x8 = 0) ∧ (rs_pt x3 7 → S → T → ¬ x4 = x5 → (G ∧ x0 = x4 ∧ x1 = x5) → x8 = x2) ∧ (rs_pt x3 7 → S → T → ¬ x4 = x5 → ¬ (G ∧ x0 = x4 ∧ x1 = x5) → x8 = -3)
def rs_kB (x0 x1 x4 x5 : Int32) (S T G : Prop) (x9 : Int32) : Prop := (¬ (S ∧ T) → x9 = -1) ∧ (S → T → x4 = x5 → x9 = (1 : Int32) <<< (x4 &&& 31)) ∧ (S → T → ¬ x4 = x5 → (G ∧ x0 = x4 ∧ x1 = x5) → x9 = ((1 : Int32) <<< (x4 &&& 31)) ||| ((1 : Int32) <<< (x5 &&& 31))) ∧ (S → T → ¬ x4 = x5 → ¬ (G ∧ x0 = x4 ∧ x1 = x5) → x9 = 0)
def rs_kA (x0 x1 x2 x4 x5 : Int32) (S G : Prop) (x10 : Int32) : Prop := (¬ S → x10 = -1) ∧ (S → ∃ x y : Int32, x10 = x ||| y ∧ (¬ x5 < 0 → x = (1 : Int32) <<< (x4 &&& 31)) ∧ (x5 < 0 → x = 0) ∧ ((G ∧ x0 = x4 ∧ ¬ x5 < x2) → y = (1 : Int32) <<< (x1 &&& 31)) ∧ (¬ (G ∧ x0 = x4 ∧ ¬ x5 < x2) → y = 0))
def rs_kF (x0 x2 x4 : Int32) (S G : Prop) (x11 : Int32) : Prop := (¬ S → x11 = -1) ∧ (S → (G ∧ x0 = x4) → x11 = x2) ∧ (S → ¬ (G ∧ x0 = x4) → x11 = 0)
def rs_kO (x4 x5 : Int32) (S T : Prop) (x12 : Int32) : Prop := (¬ (S ∧ T) → x12 = -1) ∧ (S → T → x4 = x5 → x12 = 0) ∧ (S → T → ¬ x4 = x5 → x12 = -3)
def rs_fg (x : Int32) (P : Prop) : Prop := (x = 0 ∧ ¬ P) ∨ (¬ x = 0 ∧ P)
theorem rs_G1 {g A B l s : Nat} {x0 x1 x2 x4 : Int32} {G : Prop} (k : rs_ok g A B l) (h : rs_G g A B l x0 x1 x2 G) (hs : s < 12) (es : x4 = nI s) : (g = 1 ∧ s = A) ↔ (G ∧ x0 = x4) := by
  obtain ⟨kg, kA, kB, kAB, kl, kl2⟩ := k
  rcases h with ⟨e1, e2, e3, e4, e5⟩ | ⟨e1, e2⟩
  · rw [e2, es, nI_eq (by omega) (by omega)]
    constructor
    · intro z; exact ⟨e5, z.2.symm⟩
    · intro z; exact ⟨e1, z.2.symm⟩
  · constructor
    · intro z; exact absurd z.1 (by omega)
    · intro z; exact absurd z.1 e2
theorem rs_G2 {g A B l s t : Nat} {x0 x1 x2 x4 x5 : Int32} {G : Prop} (k : rs_ok g A B l) (h : rs_G g A B l x0 x1 x2 G) (hs : s < 12) (ht : t < 12) (es : x4 = nI s) (et : x5 = nI t) : (g = 1 ∧ s = A ∧ t = B) ↔ (G ∧ x0 = x4 ∧ x1 = x5) := by
  obtain ⟨kg, kA, kB, kAB, kl, kl2⟩ := k
  rcases h with ⟨e1, e2, e3, e4, e5⟩ | ⟨e1, e2⟩
  · rw [e2, e3, es, et, nI_eq (by omega) (by omega), nI_eq (by omega) (by omega)]
    constructor
    · intro z; exact ⟨e5, z.2.1.symm, z.2.2.symm⟩
    · intro z; exact ⟨e1, z.2.1.symm, z.2.2.symm⟩
  · constructor
    · intro z; exact absurd z.1 (by omega)
    · intro z; exact absurd z.1 e2
section
variable {f0 h0 : Int32} {a1 a2 a3 a4 a5 a6 a7 a8 a9 a10 a11 a12 a13 a14 a15 a16 a17 a18 a19 a20 a21 a22 : Nat → Int32}
variable {g A B l : Nat} {G : Prop}
theorem rs_distanceK {post : Int32 → St2 → Prop} {x0 x1 x2 x3 x4 x5 : Int32} (hN : rs_N g A B l f0 a1 a2 a3) (hG : rs_G g A B l x0 x1 x2 G)
    (H : ∀ (r h1 : Int32) (b4 b7 b8 b9 b10 b11 b12 b13 b14 b15 b16 b17 b18 b19 b20 b21 b22 : Nat → Int32), rs_kD x0 x1 x2 x3 x4 x5 (rs_pt x4 12) (rs_pt x5 12) G r → post r (f0, h1, a1, a2, a3, b4, a5, a6, b7, b8, b9, b10, b11, b12, b13, b14, b15, b16, b17, b18, b19, b20, b21, b22)) : wpX_distance post (f0, h0, a1, a2, a3, a4, a5, a6, a7, a8, a9, a10, a11, a12, a13, a14, a15, a16, a17, a18, a19, a20, a21, a22) x3 x4 x5 := by
  have k := hN.1
  have k' := k
  obtain ⟨kg, kA, kB, kAB, kl, kl2⟩ := k'
  refine rs_distance hN (fun c => H (-1) h0 a4 a7 a8 a9 a10 a11 a12 a13 a14 a15 a16 a17 a18 a19 a20 a21 a22 ⟨fun _ => rfl, fun y1 y2 y3 => absurd ⟨y1, y2, y3⟩ c, fun y1 y2 y3 => absurd ⟨y1, y2, y3⟩ c, fun y1 y2 y3 => absurd ⟨y1, y2, y3⟩ c⟩) (fun e s t he hs ht ee es et h1 b4 b7 b8 b9 b10 b11 b12 b13 b14 b15 b16 b17 b18 b19 b20 b21 b22 => H _ h1 b4 b7 b8 b9 b10 b11 b12 b13 b14 b15 b16 b17 b18 b19 b20 b21 b22 ?_)
  have g2 := rs_G2 k hG hs ht es et
  have est : x4 = x5 ↔ s = t := by rw [es, et, nI_eq (by omega) (by omega)]
  refine ⟨fun c => absurd ⟨⟨e, he, ee⟩, ⟨s, hs, es⟩, ⟨t, ht, et⟩⟩ c, fun _ _ _ c => ?_, fun _ _ _ c c' => ?_, fun _ _ _ c c' => ?_⟩
  · rw [est.mp c, rs_Ds]
    exact if_pos (by omega)
  · have c2 := g2.mpr c'
    have d : rs_D g A B l s t = l := by
      rcases rs_Dc g A B l s t with f | f | f
      · exact absurd (est.mpr f.1) c
      · exact f.2.2.2.2
      · exact absurd c2 f.2.1
    have e2 : x2 = nI l := by
      rcases hG with z | z
      · exact z.2.2.2.1
      · exact absurd c'.1 z.2
    rw [d, e2]
    exact if_pos (by omega)
  · have d : rs_D g A B l s t = 1000000 := by
      rcases rs_Dc g A B l s t with f | f | f
      · exact absurd (est.mpr f.1) c
      · exact absurd (g2.mp ⟨f.2.1, f.2.2.1, f.2.2.2.1⟩) c'
      · exact f.2.2
    rw [d]
    exact if_neg (by omega)
theorem rs_betweenK {post : Int32 → St2 → Prop} {x0 x1 x2 x4 x5 : Int32} (hN : rs_N g A B l f0 a1 a2 a3) (hG : rs_G g A B l x0 x1 x2 G)
    (H : ∀ (r h1 : Int32) (b4 b5 b7 b8 b9 b10 b11 b12 b13 b14 b15 b16 b17 b18 b19 b20 b21 b22 : Nat → Int32), rs_kB x0 x1 x4 x5 (rs_pt x4 12) (rs_pt x5 12) G r → post r (f0, h1, a1, a2, a3, b4, b5, a6, b7, b8, b9, b10, b11, b12, b13, b14, b15, b16, b17, b18, b19, b20, b21, b22)) : wpX_between post (f0, h0, a1, a2, a3, a4, a5, a6, a7, a8, a9, a10, a11, a12, a13, a14, a15, a16, a17, a18, a19, a20, a21, a22) x4 x5 := by
  have k := hN.1
  refine rs_between hN (fun c => H (-1) h0 a4 a5 a7 a8 a9 a10 a11 a12 a13 a14 a15 a16 a17 a18 a19 a20 a21 a22 ⟨fun _ => rfl, fun y1 y2 => absurd ⟨y1, y2⟩ c, fun y1 y2 => absurd ⟨y1, y2⟩ c, fun y1 y2 => absurd ⟨y1, y2⟩ c⟩) (fun s t hs ht es et r r1 r2 r3 h1 b4 b5 b7 b8 b9 b10 b11 b12 b13 b14 b15 b16 b17 b18 b19 b20 b21 b22 => H r h1 b4 b5 b7 b8 b9 b10 b11 b12 b13 b14 b15 b16 b17 b18 b19 b20 b21 b22 ?_)
  have g2 := rs_G2 k hG hs ht es et
  have est : x4 = x5 ↔ s = t := by rw [es, et, nI_eq (by omega) (by omega)]
  refine ⟨fun c => absurd ⟨⟨s, hs, es⟩, ⟨t, ht, et⟩⟩ c, fun _ _ c => ?_, fun _ _ c c' => ?_, fun _ _ c c' => ?_⟩
  · rw [es]; exact r1 (est.mp c)
  · rw [es, et]; exact r2 (fun z => c (est.mpr z)) (g2.mpr c')
  · exact r3 (fun z => c (est.mpr z)) (fun z => c' (g2.mp z))
theorem rs_aroundK {post : Int32 → St2 → Prop} {x0 x1 x2 x4 x5 : Int32} (hN : rs_N g A B l f0 a1 a2 a3) (hG : rs_G g A B l x0 x1 x2 G)
    (H : ∀ (r h1 : Int32) (b4 b5 b7 b8 b9 b10 b11 b12 b13 b14 b15 b16 b17 b18 b19 b20 b21 b22 : Nat → Int32), rs_kA x0 x1 x2 x4 x5 (rs_pt x4 12) G r → post r (f0, h1, a1, a2, a3, b4, b5, a6, b7, b8, b9, b10, b11, b12, b13, b14, b15, b16, b17, b18, b19, b20, b21, b22)) : wpX_around post (f0, h0, a1, a2, a3, a4, a5, a6, a7, a8, a9, a10, a11, a12, a13, a14, a15, a16, a17, a18, a19, a20, a21, a22) x4 x5 := by
  have k := hN.1
  refine rs_around hN (fun c => H (-1) h0 a4 a5 a7 a8 a9 a10 a11 a12 a13 a14 a15 a16 a17 a18 a19 a20 a21 a22 ⟨fun _ => rfl, fun y1 => absurd y1 c⟩) (fun s hs es x y u1 u2 u3 u4 h1 b4 b5 b7 b8 b9 b10 b11 b12 b13 b14 b15 b16 b17 b18 b19 b20 b21 b22 => H _ h1 b4 b5 b7 b8 b9 b10 b11 b12 b13 b14 b15 b16 b17 b18 b19 b20 b21 b22 ?_)
  have g1 := rs_G1 k hG hs es
  refine ⟨fun c => absurd ⟨s, hs, es⟩ c, fun _ => ⟨x, y, rfl, fun c => ?_, u2, fun c => ?_, fun c => ?_⟩⟩
  · rw [es]; exact u1 c
  · rcases hG with ⟨e1, e2, e3, e4, e5⟩ | ⟨e1, e2⟩
    · have o := g1.mpr ⟨c.1, c.2.1⟩
      rw [e3]
      exact u3 ⟨o.1, o.2, by rw [← e4]; exact c.2.2⟩
    · exact absurd c.1 e2
  · refine u4 (fun z => ?_)
    rcases hG with ⟨e1, e2, e3, e4, e5⟩ | ⟨e1, e2⟩
    · have o := g1.mp ⟨z.1, z.2.1⟩
      exact c ⟨o.1, o.2, by rw [e4]; exact z.2.2⟩
    · exact absurd z.1 (by omega)
theorem rs_farthestK {post : Int32 → St2 → Prop} {x0 x1 x2 x4 : Int32} (hN : rs_N g A B l f0 a1 a2 a3) (hG : rs_G g A B l x0 x1 x2 G)
    (H : ∀ (r h1 : Int32) (b4 b5 b7 b8 b9 b10 b11 b12 b13 b14 b15 b16 b17 b18 b19 b20 b21 b22 : Nat → Int32), rs_kF x0 x2 x4 (rs_pt x4 12) G r → post r (f0, h1, a1, a2, a3, b4, b5, a6, b7, b8, b9, b10, b11, b12, b13, b14, b15, b16, b17, b18, b19, b20, b21, b22)) : wpX_farthest post (f0, h0, a1, a2, a3, a4, a5, a6, a7, a8, a9, a10, a11, a12, a13, a14, a15, a16, a17, a18, a19, a20, a21, a22) x4 := by
  have k := hN.1
  refine rs_farthest hN (fun c => H (-1) h0 a4 a5 a7 a8 a9 a10 a11 a12 a13 a14 a15 a16 a17 a18 a19 a20 a21 a22 ⟨fun _ => rfl, fun y1 => absurd y1 c, fun y1 => absurd y1 c⟩) (fun s hs es h1 b4 b5 b7 b8 b9 b10 b11 b12 b13 b14 b15 b16 b17 b18 b19 b20 b21 b22 => H _ h1 b4 b5 b7 b8 b9 b10 b11 b12 b13 b14 b15 b16 b17 b18 b19 b20 b21 b22 ?_)
  have g1 := rs_G1 k hG hs es
  refine ⟨fun c => absurd ⟨s, hs, es⟩ c, fun _ c => ?_, fun _ c => ?_⟩
  · rw [if_pos (g1.mpr c)]
    rcases hG with z | z
    · exact z.2.2.2.1.symm
    · exact absurd c.1 z.2
  · rw [if_neg (fun z => c (g1.mp z))]; rfl
theorem rs_overK {post : Int32 → St2 → Prop} {x4 x5 : Int32} (hN : rs_N g A B l f0 a1 a2 a3)
    (H : ∀ (r h1 : Int32) (b4 b7 b8 b9 b10 b11 b12 b13 b14 b15 b16 b17 b18 b19 b20 b21 b22 : Nat → Int32), rs_kO x4 x5 (rs_pt x4 12) (rs_pt x5 12) r → post r (f0, h1, a1, a2, a3, b4, a5, a6, b7, b8, b9, b10, b11, b12, b13, b14, b15, b16, b17, b18, b19, b20, b21, b22)) : wpX_over post (f0, h0, a1, a2, a3, a4, a5, a6, a7, a8, a9, a10, a11, a12, a13, a14, a15, a16, a17, a18, a19, a20, a21, a22) x4 x5 x4 := by
  refine rs_over hN (fun c => H (-1) h0 a4 a7 a8 a9 a10 a11 a12 a13 a14 a15 a16 a17 a18 a19 a20 a21 a22 ⟨fun _ => rfl, fun y1 y2 => absurd ⟨y1, y2⟩ c, fun y1 y2 => absurd ⟨y1, y2⟩ c⟩) (fun s t hs ht es et h1 b4 b7 b8 b9 b10 b11 b12 b13 b14 b15 b16 b17 b18 b19 b20 b21 b22 => H _ h1 b4 b7 b8 b9 b10 b11 b12 b13 b14 b15 b16 b17 b18 b19 b20 b21 b22 ?_)
  have est : x4 = x5 ↔ s = t := by rw [es, et, nI_eq (by omega) (by omega)]
  exact ⟨fun c => absurd ⟨⟨s, hs, es⟩, ⟨t, ht, et⟩⟩ c, fun _ _ c => if_pos (est.mp c), fun _ _ c => if_neg (fun z => c (est.mpr z))⟩
/-! add, on a new object -/
theorem rs_add {post : Int32 → St2 → Prop} {x0 x1 x2 : Int32} (z1 : ∀ k, a1 k = 0) (z2 : ∀ k, a2 k = 0)
    (H : ∀ (g A B l : Nat) (r f : Int32) (b1 b2 b3 : Nat → Int32), rs_N g A B l f b1 b2 b3 → rs_G g A B l x0 x1 x2 (rs_gd x0 x1 x2) → (rs_gd x0 x1 x2 → r = 0) → (¬ rs_gd x0 x1 x2 → r = -1) → post r (f, h0, b1, b2, b3, a4, a5, a6, a7, a8, a9, a10, a11, a12, a13, a14, a15, a16, a17, a18, a19, a20, a21, a22)) : wpX_add post (0, h0, a1, a2, a3, a4, a5, a6, a7, a8, a9, a10, a11, a12, a13, a14, a15, a16, a17, a18, a19, a20, a21, a22) x0 x1 x2 := by
  have bad : ¬ rs_gd x0 x1 x2 → post (-1) (0, h0, a1, a2, a3, a4, a5, a6, a7, a8, a9, a10, a11, a12, a13, a14, a15, a16, a17, a18, a19, a20, a21, a22) := fun c => H 0 0 1 1 (-1) 0 a1 a2 a3 ⟨⟨by omega, by omega, by omega, by omega, by omega, by omega⟩, rfl, fun k _ => ⟨0, by omega, z1 k⟩, fun k _ => ⟨0, by omega, z2 k⟩, fun z => absurd z (by omega)⟩ (Or.inr ⟨rfl, c⟩) (fun z => absurd z c) (fun _ => rfl)
  unfold wpX_add
  dsimp only
  refine rs_isP (fun A hA eA => br_f (by decide) ?_) (fun c => br_t rfl (bad (fun ⟨A', B', l', q1, q2, q3, q4, q5, q6, q7, q8⟩ => c ⟨A', q1, q6⟩)))
  refine rs_isP (fun B hB eB => br_f (by decide) ?_) (fun c => br_t rfl (bad (fun ⟨A', B', l', q1, q2, q3, q4, q5, q6, q7, q8⟩ => c ⟨B', q2, q7⟩)))
  refine br_c (fun c => bad (fun ⟨A', B', l', q1, q2, q3, q4, q5, q6, q7, q8⟩ => q3 ((nI_eq (by omega) (by omega)).mp (by rw [← q6, ← q7, c])))) (fun c => ?_)
  have hAB : A ≠ B := fun z => c (by rw [eA, eB, z])
  rcases pk_ix x2 (n := 31) (by omega) with d | d | ⟨l, hl, e⟩
  · have b' := bad (fun ⟨A', B', l', q1, q2, q3, q4, q5, q6, q7, q8⟩ => by rw [q8] at d; exact nI_pos (by omega) d)
    exact br_c (fun _ => b') (fun n1 => br_c (fun _ => absurd (by rw [Int32.lt_iff_toInt_lt] at d ⊢; exact Int.lt_trans d (by decide)) n1) (fun _ => b'))
  · have b' := bad (fun ⟨A', B', l', q1, q2, q3, q4, q5, q6, q7, q8⟩ => by rw [q8] at d; exact nI_ge (show l' < 31 by omega) (by omega) d)
    exact br_c (fun _ => b') (fun _ => br_c (fun n2 => absurd (by rw [Int32.le_iff_toInt_le] at d n2; have hh := Int.le_trans d n2; exact hh) (by decide)) (fun _ => b'))
  · subst e
    refine pk_lt l 1 (fun d => bad (fun ⟨A', B', l', q1, q2, q3, q4, q5, q6, q7, q8⟩ => ?_)) (fun d => pk_le l 30 (fun d2 => ⟨1, ?_⟩) (fun d2 => absurd d2 (by omega)))
    · have := (nI_eq (show l < 2 ^ 31 by omega) (show l' < 2 ^ 31 by omega)).mp q8
      omega
    · have e0 : (0 : Int32).toNatClampNeg = 0 := by decide
      refine pk_le 28 0 (fun z => absurd z (by omega)) (fun z => ?_)
      refine rs_has (g := 0) (k := 0) (by omega) rfl z (fun c' => absurd c' (by omega)) (fun _ => br_t rfl ?_)
      rw [e0, eA, eB, rs_b8 A (by omega), rs_b8 B (by omega), rs_b8 l (by omega)]
      refine nm_r (e' := 1) (by decide) ⟨pk_in 0 28 z, nm_e ⟨pk_in 0 28 z, nm_e ⟨pk_in 0 28 z, nm_e ?_⟩⟩⟩
      have gd : rs_gd x0 x1 (nI l) := ⟨A, B, l, hA, hB, hAB, d, d2, eA, eB, rfl⟩
      refine H 1 A B l 0 1 _ _ _ ⟨⟨by omega, hA, hB, hAB, d, d2⟩, rfl, fun k _ => ?_, fun k _ => ?_, fun _ => ⟨pk_us, pk_us, pk_us⟩⟩ (Or.inl ⟨rfl, eA, eB, rfl, gd⟩) (fun _ => rfl) (fun z => absurd gd z)
      · by_cases c' : k = 0
        · rw [c', pk_us]; exact ⟨A, hA, rfl⟩
        · rw [pk_un c']; exact ⟨0, by omega, z1 k⟩
      · by_cases c' : k = 0
        · rw [c', pk_us]; exact ⟨B, hB, rfl⟩
        · rw [pk_un c']; exact ⟨0, by omega, z2 k⟩
end
theorem rs_init {post : St2 → Prop} {mc ms : Nat} {f h : Int32} (hm : 22 ≤ mc) (hs : 1295 ≤ ms) (H : post (f, h, (fun _ => 0), (fun _ => 0), (fun _ => 0), (fun _ => 0), (fun _ => 0), (fun _ => 0), (fun _ => 0), (fun _ => 0), (fun _ => 0), (fun _ => 0), (fun _ => 0), (fun _ => 0), (fun _ => 0), (fun _ => 0), (fun _ => 0), (fun _ => 0), (fun _ => 0), (fun _ => 0), (fun _ => 0), (fun _ => 0), (fun _ => 0), (fun _ => 0))) : wpX_init post mc ms (f, h) := by
  unfold wpX_init
  exact ⟨by omega, by omega, by omega, by omega, by omega, by omega, by omega, by omega, by omega, by omega, by omega, by omega, by omega, by omega, by omega, by omega, by omega, by omega, by omega, by omega, by omega, by omega, by omega, by omega, by omega, by omega, by omega, by omega, by omega, by omega, by omega, by omega, by omega, by omega, by omega, by omega, by omega, by omega, by omega, by omega, by omega, by omega, by omega, by omega, H⟩
end
section
/-- what the six calls of the law answered -/
def rs_all (x0 x1 x2 x3 x4 x5 x7 x8 x9 x10 x11 x12 : Int32) : Prop := ((rs_gd x0 x1 x2 → x7 = 0) ∧ (¬ rs_gd x0 x1 x2 → x7 = -1)) ∧ rs_kD x0 x1 x2 x3 x4 x5 (rs_pt x4 12) (rs_pt x5 12) (rs_gd x0 x1 x2) x8 ∧ rs_kB x0 x1 x4 x5 (rs_pt x4 12) (rs_pt x5 12) (rs_gd x0 x1 x2) x9 ∧ rs_kA x0 x1 x2 x4 x5 (rs_pt x4 12) (rs_gd x0 x1 x2) x10 ∧ rs_kF x0 x2 x4 (rs_pt x4 12) (rs_gd x0 x1 x2) x11 ∧ rs_kO x4 x5 (rs_pt x4 12) (rs_pt x5 12) x12
theorem rs_ptbr {x : Int32} {P Q : Prop} (h1 : rs_pt x 12 → Q) (h0 : ¬ rs_pt x 12 → P) : (x < 0 → P) ∧ (¬ x < 0 → ((11 < x → P) ∧ (¬ 11 < x → Q))) := by
  rcases pk_ix x (n := 12) (by omega) with c | c | ⟨j, hj, e⟩
  · exact br_t c (h0 (rs_ptN (by omega) (Or.inl c)))
  · have n := h0 (rs_ptN (by omega) (Or.inr c))
    have hlt : (11 : Int32) < x := by
      rw [Int32.le_iff_toInt_le] at c
      rw [Int32.lt_iff_toInt_lt]
      exact Int.lt_of_lt_of_le (by decide) c
    exact br_c (fun _ => n) (fun _ => br_t hlt n)
  · subst e
    exact br_f (nI_pos (by omega)) (br_f (nI_nlt (a := 11) (b := j) (by omega) (by omega)) (h1 ⟨j, hj, rfl⟩))
section
variable {post : Int32 → St0 → Prop} {mc ms kc ks : Nat} {x0 x1 x2 x3 x4 x5 x7 x8 x9 x10 x11 x12 x13 x14 x15 x16 x17 x18 x19 z0 z1 : Int32}
theorem rs_w436 (hp : post 1 ()) (h : z1 = z0) : wL_lawOf_436 post mc ms z0 z1 kc ks := br_t h hp
theorem rs_w404 (hp : post 1 ()) (q : rs_all x0 x1 x2 x3 x4 x5 x7 x8 x9 x10 x11 x12) (f15 : rs_fg x15 (rs_pt x4 12)) (f16 : rs_fg x16 (rs_pt x5 12)) (h : z1 = z0) : wL_lawOf_404 post mc ms x4 x5 x12 x15 x16 z0 z1 kc ks := by
  obtain ⟨o0, o1, o2⟩ := q.2.2.2.2.2
  unfold wL_lawOf_404 wL_lawOf_419
  refine br_t h ?_
  rcases f15 with ⟨c, s⟩ | ⟨c, s⟩
  · exact br_t c (rs_w436 hp (o0 (fun z => s z.1)))
  · refine br_f c ?_
    rcases f16 with ⟨c', s'⟩ | ⟨c', s'⟩
    · exact br_t c' (rs_w436 hp (o0 (fun z => s' z.2)))
    · exact br_f c' (br_c (fun e => rs_w436 hp (o1 s s' e)) (fun e => rs_w436 hp (o2 s s' e)))
theorem rs_w367 (hp : post 1 ()) (q : rs_all x0 x1 x2 x3 x4 x5 x7 x8 x9 x10 x11 x12) (f15 : rs_fg x15 (rs_pt x4 12)) (f16 : rs_fg x16 (rs_pt x5 12)) (f17 : rs_fg x17 (rs_gd x0 x1 x2)) (h10 : x10 = x19) (h : z1 = z0) : wL_lawOf_367 post mc ms x0 x2 x4 x5 x10 x11 x12 x15 x16 x17 x19 z0 z1 kc ks := by
  obtain ⟨o0, o1, o2⟩ := q.2.2.2.2.1
  unfold wL_lawOf_367 wL_lawOf_403
  refine br_t h (br_t h10 ?_)
  have f15' := f15
  rcases f15' with ⟨c, s⟩ | ⟨c, s⟩
  · exact br_t c (rs_w404 hp q f15 f16 (o0 s))
  · refine br_f c ?_
    rcases f17 with ⟨c', s'⟩ | ⟨c', s'⟩
    · exact br_t c' (rs_w404 hp q f15 f16 (o2 s (fun z => s' z.1)))
    · exact br_f c' (br_c (fun e => rs_w404 hp q f15 f16 (o1 s ⟨s', e⟩)) (fun e => rs_w404 hp q f15 f16 (o2 s (fun z => e z.2))))
theorem rs_w316 (hp : post 1 ()) (q : rs_all x0 x1 x2 x3 x4 x5 x7 x8 x9 x10 x11 x12) (f15 : rs_fg x15 (rs_pt x4 12)) (f16 : rs_fg x16 (rs_pt x5 12)) (f17 : rs_fg x17 (rs_gd x0 x1 x2)) (f18 : rs_fg x18 (rs_gd x0 x1 x2 ∧ x0 = x4 ∧ x1 = x5)) (h10 : x10 = x19) (h : z1 = z0) : wL_lawOf_316 post mc ms x0 x2 x4 x5 x9 x10 x11 x12 x15 x16 x17 x18 x19 z0 z1 kc ks := by
  obtain ⟨o0, o1, o2, o3⟩ := q.2.2.1
  unfold wL_lawOf_316 wL_lawOf_331
  refine br_t h ?_
  have f15' := f15
  have f16' := f16
  rcases f15' with ⟨c, s⟩ | ⟨c, s⟩
  · exact br_t c (rs_w367 hp q f15 f16 f17 h10 (o0 (fun z => s z.1)))
  · refine br_f c ?_
    rcases f16' with ⟨c', s'⟩ | ⟨c', s'⟩
    · exact br_t c' (rs_w367 hp q f15 f16 f17 h10 (o0 (fun z => s' z.2)))
    · refine br_f c' (br_c (fun e => rs_w367 hp q f15 f16 f17 h10 (o1 s s' e)) (fun e => ?_))
      rcases f18 with ⟨d, m⟩ | ⟨d, m⟩
      · exact br_t d (rs_w367 hp q f15 f16 f17 h10 (o3 s s' e m))
      · exact br_f d (rs_w367 hp q f15 f16 f17 h10 (o2 s s' e m))
theorem rs_w265 (hp : post 1 ()) (q : rs_all x0 x1 x2 x3 x4 x5 x7 x8 x9 x10 x11 x12) (f15 : rs_fg x15 (rs_pt x4 12)) (f16 : rs_fg x16 (rs_pt x5 12)) (f17 : rs_fg x17 (rs_gd x0 x1 x2)) (f18 : rs_fg x18 (rs_gd x0 x1 x2 ∧ x0 = x4 ∧ x1 = x5)) (h10 : x10 = x19) (h : z1 = z0) : wL_lawOf_265 post mc ms x0 x2 x3 x4 x5 x8 x9 x10 x11 x12 x15 x16 x17 x18 x19 z0 z1 kc ks := by
  obtain ⟨o0, o1, o2, o3⟩ := q.2.1
  unfold wL_lawOf_265 wL_lawOf_290
  refine br_t h ?_
  have f15' := f15
  have f16' := f16
  rcases f15' with ⟨c, s⟩ | ⟨c, s⟩
  · exact br_t c (rs_w316 hp q f15 f16 f17 f18 h10 (o0 (fun z => s z.2.1)))
  · refine br_f c ?_
    rcases f16' with ⟨c', s'⟩ | ⟨c', s'⟩
    · exact br_t c' (rs_w316 hp q f15 f16 f17 f18 h10 (o0 (fun z => s' z.2.2)))
    · refine br_f c' ?_
      have bad : ¬ rs_pt x3 7 → x8 = -1 := fun n => o0 (fun z => n z.1)
      rcases pk_ix x3 (n := 7) (by omega) with d | d | ⟨e, he, ee⟩
      · exact br_t d (rs_w316 hp q f15 f16 f17 f18 h10 (bad (rs_ptN (by omega) (Or.inl d))))
      · have hn : ¬ x3 ≤ 6 := by
          intro hh
          have d' := d
          rw [Int32.le_iff_toInt_le] at hh d'
          exact absurd (Int.le_trans d' hh) (by decide)
        have n8 := bad (rs_ptN (by omega) (Or.inr d))
        exact br_c (fun _ => rs_w316 hp q f15 f16 f17 f18 h10 n8) (fun _ => br_f hn (rs_w316 hp q f15 f16 f17 f18 h10 n8))
      · have hpt : rs_pt x3 7 := ⟨e, he, ee⟩
        refine br_f (by rw [ee]; exact nI_pos (by omega)) (br_t (by rw [ee]; exact nI_le (b := 6) (by omega) (by omega)) ?_)
        refine br_c (fun y => rs_w316 hp q f15 f16 f17 f18 h10 (o1 hpt s s' y)) (fun y => ?_)
        have f18' := f18
        rcases f18' with ⟨d, m⟩ | ⟨d, m⟩
        · exact br_t d (rs_w316 hp q f15 f16 f17 f18 h10 (o3 hpt s s' y m))
        · exact br_f d (rs_w316 hp q f15 f16 f17 f18 h10 (o2 hpt s s' y m))
theorem rs_w251 (hp : post 1 ()) (q : rs_all x0 x1 x2 x3 x4 x5 x7 x8 x9 x10 x11 x12) (f15 : rs_fg x15 (rs_pt x4 12)) (f16 : rs_fg x16 (rs_pt x5 12)) (f17 : rs_fg x17 (rs_gd x0 x1 x2)) (f18 : rs_fg x18 (rs_gd x0 x1 x2 ∧ x0 = x4 ∧ x1 = x5)) (h10 : x10 = z0) : wL_lawOf_251 post mc ms x0 x2 x3 x4 x5 x7 x8 x9 x10 x11 x12 x15 x16 x17 x18 z0 kc ks := by
  obtain ⟨o0, o1⟩ := q.1
  unfold wL_lawOf_251
  have f17' := f17
  rcases f17' with ⟨c, s⟩ | ⟨c, s⟩
  · exact br_t c (rs_w265 hp q f15 f16 f17 f18 h10 (o1 s))
  · exact br_f c (rs_w265 hp q f15 f16 f17 f18 h10 (o0 s))
theorem rs_w222 {y : Int32} (hp : post 1 ()) (q : rs_all x0 x1 x2 x3 x4 x5 x7 x8 x9 x10 x11 x12) (f15 : rs_fg x15 (rs_pt x4 12)) (f16 : rs_fg x16 (rs_pt x5 12)) (f17 : rs_fg x17 (rs_gd x0 x1 x2)) (f18 : rs_fg x18 (rs_gd x0 x1 x2 ∧ x0 = x4 ∧ x1 = x5)) (h10 : x10 = z0 ||| y) (y1 : (rs_gd x0 x1 x2 ∧ x0 = x4 ∧ ¬ x5 < x2) → y = (1 : Int32) <<< (x1 &&& 31)) (y0 : ¬ (rs_gd x0 x1 x2 ∧ x0 = x4 ∧ ¬ x5 < x2) → y = 0) : wL_lawOf_222 post mc ms x0 x1 x2 x3 x4 x5 x7 x8 x9 x10 x11 x12 x15 x16 x17 x18 z0 kc ks := by
  unfold wL_lawOf_222 wL_lawOf_245 wL_lawOf_246
  have off : ¬ (rs_gd x0 x1 x2 ∧ x0 = x4 ∧ ¬ x5 < x2) → x10 = z0 ||| 0 := fun n => by rw [h10, y0 n]
  have f17' := f17
  rcases f17' with ⟨c, s⟩ | ⟨c, s⟩
  · exact br_t c (rs_w251 hp q f15 f16 f17 f18 (off (fun z => s z.1)))
  · refine br_f c (br_c (fun e => br_c (fun d => ?_) (fun d => ?_)) (fun e => ?_))
    · exact rs_w251 hp q f15 f16 f17 f18 (off (fun z => z.2.2 d))
    · exact rs_w251 hp q f15 f16 f17 f18 (by rw [h10, y1 ⟨s, e, d⟩])
    · exact rs_w251 hp q f15 f16 f17 f18 (off (fun z => e z.2.1))
theorem rs_w202 (hp : post 1 ()) (q : rs_all x0 x1 x2 x3 x4 x5 x7 x8 x9 x10 x11 x12) (f15 : rs_fg x15 (rs_pt x4 12)) (f16 : rs_fg x16 (rs_pt x5 12)) (f17 : rs_fg x17 (rs_gd x0 x1 x2)) (f18 : rs_fg z0 (rs_gd x0 x1 x2 ∧ x0 = x4 ∧ x1 = x5)) : wL_lawOf_202 post mc ms x0 x1 x2 x3 x4 x5 x7 x8 x9 x10 x11 x12 x15 x16 x17 z0 kc ks := by
  obtain ⟨o0, o1⟩ := q.2.2.2.1
  unfold wL_lawOf_202
  have f15' := f15
  rcases f15' with ⟨c, s⟩ | ⟨c, s⟩
  · exact br_t c (rs_w251 hp q f15 f16 f17 f18 (o0 s))
  · obtain ⟨x, y, e, u1, u2, u3, u4⟩ := o1 s
    exact br_f c (br_c (fun d => rs_w222 hp q f15 f16 f17 f18 (by rw [e, u2 d]) u3 u4) (fun d => rs_w222 hp q f15 f16 f17 f18 (by rw [e, u1 d]) u3 u4))
theorem rs_w178 (hp : post 1 ()) (q : rs_all x0 x1 x2 x3 x4 x5 x7 x8 x9 x10 x11 x12) (f15 : rs_fg x15 (rs_pt x4 12)) (f16 : rs_fg x16 (rs_pt x5 12)) (f17 : rs_fg z0 (rs_gd x0 x1 x2)) : wL_lawOf_178 post mc ms x0 x1 x2 x3 x4 x5 x7 x8 x9 x10 x11 x12 x15 x16 z0 kc ks := by
  unfold wL_lawOf_178 wL_lawOf_201
  have f17' := f17
  rcases f17' with ⟨c, s⟩ | ⟨c, s⟩
  · exact br_t c (rs_w202 hp q f15 f16 f17 (Or.inl ⟨rfl, fun z => s z.1⟩))
  · refine br_f c (br_c (fun e => br_c (fun e' => ?_) (fun e' => ?_)) (fun e => ?_))
    · exact rs_w202 hp q f15 f16 f17 (Or.inr ⟨by decide, s, e, e'⟩)
    · exact rs_w202 hp q f15 f16 f17 (Or.inl ⟨rfl, fun z => e' z.2.2⟩)
    · exact rs_w202 hp q f15 f16 f17 (Or.inl ⟨rfl, fun z => e z.2.1⟩)
theorem rs_w145 (hp : post 1 ()) (q : rs_all x0 x1 x2 x3 x4 x5 x7 x8 x9 x10 x11 x12) (f13 : rs_fg x13 (rs_pt x0 12)) (f14 : rs_fg x14 (rs_pt x1 12)) (f15 : rs_fg x15 (rs_pt x4 12)) (f16 : rs_fg z0 (rs_pt x5 12)) : wL_lawOf_145 post mc ms x0 x1 x2 x3 x4 x5 x7 x8 x9 x10 x11 x12 x13 x14 x15 z0 kc ks := by
  unfold wL_lawOf_145 wL_lawOf_177
  have off : ¬ rs_gd x0 x1 x2 → wL_lawOf_178 post mc ms x0 x1 x2 x3 x4 x5 x7 x8 x9 x10 x11 x12 x15 z0 0 kc ks := fun n => rs_w178 hp q f15 f16 (Or.inl ⟨rfl, n⟩)
  rcases f13 with ⟨c, s⟩ | ⟨c, s⟩
  · exact br_t c (off (fun ⟨A', B', l', q1, q2, q3, q4, q5, q6, q7, q8⟩ => s ⟨A', q1, q6⟩))
  · refine br_f c ?_
    rcases f14 with ⟨c', s'⟩ | ⟨c', s'⟩
    · exact br_t c' (off (fun ⟨A', B', l', q1, q2, q3, q4, q5, q6, q7, q8⟩ => s' ⟨B', q2, q7⟩))
    · refine br_f c' (br_c (fun e => off (fun ⟨A', B', l', q1, q2, q3, q4, q5, q6, q7, q8⟩ => q3 ((nI_eq (by omega) (by omega)).mp (by rw [← q6, ← q7, e])))) (fun e => ?_))
      obtain ⟨A, hA, eA⟩ := s
      obtain ⟨B, hB, eB⟩ := s'
      have hAB : A ≠ B := fun z => e (by rw [eA, eB, z])
      rcases pk_ix x2 (n := 31) (by omega) with d | d | ⟨l, hl, el⟩
      · have n := off (fun ⟨A', B', l', q1, q2, q3, q4, q5, q6, q7, q8⟩ => by rw [q8] at d; exact nI_pos (by omega) d)
        have h1 : x2 < 1 := by
          rw [Int32.lt_iff_toInt_lt] at d ⊢
          exact Int.lt_trans d (by decide)
        exact br_t h1 n
      · have n := off (fun ⟨A', B', l', q1, q2, q3, q4, q5, q6, q7, q8⟩ => by rw [q8] at d; exact nI_ge (show l' < 31 by omega) (by omega) d)
        have h1 : (30 : Int32) < x2 := by
          rw [Int32.le_iff_toInt_le] at d
          rw [Int32.lt_iff_toInt_lt]
          exact Int.lt_of_lt_of_le (by decide) d
        exact br_c (fun _ => n) (fun _ => br_t h1 n)
      · refine pk_lt l 1 (fun d => off (fun ⟨A', B', l', q1, q2, q3, q4, q5, q6, q7, q8⟩ => ?_)) (fun d => pk_lt 30 l (fun d2 => absurd d2 (by omega)) (fun d2 => ?_) rfl el) el
        · have := (nI_eq (show l < 2 ^ 31 by omega) (show l' < 2 ^ 31 by omega)).mp (by rw [← el, q8])
          omega
        · exact rs_w178 hp q f15 f16 (Or.inr ⟨by decide, A, B, l, hA, hB, hAB, d, d2, eA, eB, el⟩)
theorem rs_w126 (hp : post 1 ()) (q : rs_all x0 x1 x2 x3 x4 x5 x7 x8 x9 x10 x11 x12) (f13 : rs_fg x13 (rs_pt x0 12)) (f14 : rs_fg x14 (rs_pt x1 12)) (f15 : rs_fg z0 (rs_pt x4 12)) : wL_lawOf_126 post mc ms x0 x1 x2 x3 x4 x5 x7 x8 x9 x10 x11 x12 x13 x14 z0 kc ks := by
  unfold wL_lawOf_126 wL_lawOf_144
  exact rs_ptbr (fun h => rs_w145 hp q f13 f14 f15 (Or.inr ⟨by decide, h⟩)) (fun h => rs_w145 hp q f13 f14 f15 (Or.inl ⟨rfl, h⟩))
theorem rs_w107 (hp : post 1 ()) (q : rs_all x0 x1 x2 x3 x4 x5 x7 x8 x9 x10 x11 x12) (f13 : rs_fg x13 (rs_pt x0 12)) (f14 : rs_fg z0 (rs_pt x1 12)) : wL_lawOf_107 post mc ms x0 x1 x2 x3 x4 x5 x7 x8 x9 x10 x11 x12 x13 z0 kc ks := by
  unfold wL_lawOf_107 wL_lawOf_125
  exact rs_ptbr (fun h => rs_w126 hp q f13 f14 (Or.inr ⟨by decide, h⟩)) (fun h => rs_w126 hp q f13 f14 (Or.inl ⟨rfl, h⟩))
theorem rs_w90 (hp : post 1 ()) (q : rs_all x0 x1 x2 x3 x4 x5 x7 x8 x9 x10 x11 x12) (f13 : rs_fg z0 (rs_pt x0 12)) : wL_lawOf_90 post mc ms x0 x1 x2 x3 x4 x5 x7 x8 x9 x10 x11 x12 z0 kc ks := by
  unfold wL_lawOf_90 wL_lawOf_106
  exact rs_ptbr (fun h => rs_w107 hp q f13 (Or.inr ⟨by decide, h⟩)) (fun h => rs_w107 hp q f13 (Or.inl ⟨rfl, h⟩))
theorem rs_lawOf (hp : post 1 ()) : wpL_lawOf post 640 10224 () x0 x1 x2 x3 x4 x5 := by
  unfold wpL_lawOf
  refine ⟨by omega, by omega, 639, 10200, by omega, by omega, rs_init (by omega) (by omega) ?_⟩
  refine rs_add (fun _ => rfl) (fun _ => rfl) (fun g A B l r7 f b1 b2 b3 hN hG g1 g0 => ?_)
  refine rs_distanceK hN hG (fun r8 h1 c4 c7 c8 c9 c10 c11 c12 c13 c14 c15 c16 c17 c18 c19 c20 c21 c22 k8 => ?_)
  refine rs_betweenK hN hG (fun r9 h2 d4 d5 d7 d8 d9 d10 d11 d12 d13 d14 d15 d16 d17 d18 d19 d20 d21 d22 k9 => ?_)
  refine rs_aroundK hN hG (fun r10 h3 e4 e5 e7 e8 e9 e10 e11 e12 e13 e14 e15 e16 e17 e18 e19 e20 e21 e22 k10 => ?_)
  refine rs_farthestK hN hG (fun r11 h4 i4 i5 i7 i8 i9 i10 i11 i12 i13 i14 i15 i16 i17 i18 i19 i20 i21 i22 k11 => ?_)
  refine rs_overK hN (fun r12 h5 j4 j7 j8 j9 j10 j11 j12 j13 j14 j15 j16 j17 j18 j19 j20 j21 j22 k12 => ?_)
  have q : rs_all x0 x1 x2 x3 x4 x5 r7 r8 r9 r10 r11 r12 := ⟨⟨g1, g0⟩, k8, k9, k10, k11, k12⟩
  dsimp only
  refine rs_ptbr (fun h => rs_w90 hp q (Or.inr ⟨by decide, h⟩)) (fun h => ?_)
  unfold wL_lawOf_89
  exact rs_w90 hp q (Or.inl ⟨rfl, h⟩)
end
end
section
theorem rs_cellAt {post : Int32 → Prop} {L : Nat} {xs : Nat → Int32} {i : Nat} (hL : L ≤ 6) (hi : i < 6) (H : ∀ r, post r) : wpL_cellAt post L xs () (nI i) := by
  unfold wpL_cellAt
  exact pk_le L i (fun _ => H _) (fun z => ⟨pk_in i L z, H _⟩)
theorem i_vc (xs : Nat → Int32) (L : Nat) (hL : L ≤ 6) : wpL_law (fun r => r = 1) L xs := by
  unfold wpL_law
  refine rs_cellAt (i := 0) hL (by omega) (fun r1 => ?_)
  refine rs_cellAt (i := 1) hL (by omega) (fun r2 => ?_)
  refine rs_cellAt (i := 2) hL (by omega) (fun r3 => ?_)
  refine rs_cellAt (i := 3) hL (by omega) (fun r4 => ?_)
  refine rs_cellAt (i := 4) hL (by omega) (fun r5 => ?_)
  refine rs_cellAt (i := 5) hL (by omega) (fun r6 => ?_)
  exact ⟨640, 10224, by omega, by omega, rs_lawOf rfl⟩
end

section
/-- an array that is zero behind a finite list -/
def qz_t : List Int32 → Nat → Int32
  | [], _ => 0
  | a :: _, 0 => a
  | _ :: l, n + 1 => qz_t l n
def qz_set : Nat → Int32 → List Int32 → List Int32
  | 0, v, [] => [v]
  | 0, v, _ :: l => v :: l
  | n + 1, v, [] => 0 :: qz_set n v []
  | n + 1, v, a :: l => a :: qz_set n v l
theorem qz_get (k : Nat) (v : Int32) : ∀ (l : List Int32) (j : Nat), qz_t (qz_set k v l) j = if j = k then v else qz_t l j := by
  induction k with
  | zero =>
    intro l j
    cases l <;> cases j <;> simp [qz_t, qz_set]
  | succ k ih =>
    intro l j
    cases l <;> cases j <;> simp [qz_t, qz_set, ih]
theorem qz_upd (l : List Int32) (k : Nat) (v : Int32) : upd (qz_t l) k v = qz_t (qz_set k v l) := by
  funext j
  exact (qz_get k v l j).symm
def qz_in (x : Int32) : Bool := decide (0 ≤ x.toInt) && decide (x.toInt < 41)
theorem qz_in_ok {x : Int32} (h : qz_in x = true) : vp_in x 41 := by
  unfold qz_in at h
  rw [Bool.and_eq_true] at h
  exact vp_in_iff.mpr ⟨of_decide_eq_true h.1, of_decide_eq_true h.2⟩
/-! the rules: each turns 'the mirror says true' into the printed predicate, a step at a time -/
theorem qr_ff {A : Prop} : (false = true) → A := fun h => nomatch h
theorem qr_br {c : Prop} [d : Decidable c] {a b : Bool} {A B : Prop} (ha : a = true → A) (hb : b = true → B) : ((if c then a else b) = true) → (c → A) ∧ (¬ c → B) := by
  intro h
  refine ⟨fun hc => ?_, fun hc => ?_⟩
  · rw [if_pos hc] at h
    exact ha h
  · rw [if_neg hc] at h
    exact hb h
theorem qr_ck {x : Int32} {a : Bool} {A : Prop} (ha : a = true → A) : ((qz_in x && a) = true) → vp_in x 41 ∧ A := by
  intro h
  rw [Bool.and_eq_true] at h
  exact ⟨qz_in_ok h.1, ha h.2⟩
theorem qr_nm {α : Sort _} {a : Bool} {e : α} {P : α → Prop} (ha : a = true → P e) : a = true → ∀ x, x = e → P x := fun h x ex => ex ▸ ha h
theorem qr_nu {a : Bool} {l : List Int32} {k : Nat} {v : Int32} {P : (Nat → Int32) → Prop} (ha : a = true → P (qz_t (qz_set k v l))) : a = true → ∀ x, x = upd (qz_t l) k v → P x := by
  intro h x ex
  rw [ex, qz_upd]
  exact ha h
theorem qr_fu {a : Bool} {P : Nat → Prop} (n : Nat) (ha : a = true → P n) : a = true → ∃ k, P k := fun h => ⟨n, ha h⟩

abbrev qz_V : Type := Int32 → Bool
abbrev qz_P : Type := Int32 → List Int32 → List Int32 → List Int32 → List Int32 → List Int32 → List Int32 → List Int32 → List Int32 → List Int32 → Bool
abbrev qz_R : Type := Int32 → Int32 → List Int32 → List Int32 → List Int32 → List Int32 → List Int32 → List Int32 → List Int32 → List Int32 → List Int32 → Bool

def qz_full (bp : qz_V) (m : Int32) (l1 l2 l3 l4 l5 l6 l7 l8 l9 : List Int32) : Bool := if qz_t l8 0 = 40 then bp 1 else bp 0
theorem qk_full {bp : qz_V} {post : Int32 → Prop} (hp : ∀ r, bp r = true → post r) (m : Int32) (l1 l2 l3 l4 l5 l6 l7 l8 l9 : List Int32) : qz_full bp m l1 l2 l3 l4 l5 l6 l7 l8 l9 = true → wpX_full post (m, qz_t l1, qz_t l2, qz_t l3, qz_t l4, qz_t l5, qz_t l6, qz_t l7, qz_t l8, qz_t l9) :=
  qr_br (hp _) (hp _)

def qz_levelOf_7 (bp : qz_V) (m : Int32) (l1 l2 l3 l4 l5 l6 l7 l8 l9 : List Int32) : Nat → Int32 → Int32 → Int32 → Bool
  | 0 => fun _ _ _ => false
  | n + 1 => fun x2 x3 x4 => if 40 ≤ x4 then bp x2 else if x3 = 0 then bp x2 else (qz_in x3 && qz_levelOf_7 bp m l1 l2 l3 l4 l5 l6 l7 l8 l9 n (x2 + 1) (qz_t l4 x3.toNatClampNeg) (x4 + 1))
theorem qk_levelOf_7 {bp : qz_V} {post : Int32 → Prop} (hp : ∀ r, bp r = true → post r) (m : Int32) (l1 l2 l3 l4 l5 l6 l7 l8 l9 : List Int32) : ∀ (n : Nat) (x2 x3 x4 : Int32), qz_levelOf_7 bp m l1 l2 l3 l4 l5 l6 l7 l8 l9 n x2 x3 x4 = true → wX_levelOf_7 post m (qz_t l1) (qz_t l2) (qz_t l3) (qz_t l4) (qz_t l5) (qz_t l6) (qz_t l7) (qz_t l8) (qz_t l9) n x2 x3 x4 := by
  intro n
  induction n with
  | zero => exact fun _ _ _ => qr_ff
  | succ n ih => exact fun x2 x3 x4 => qr_br (hp _) (qr_br (hp _) (qr_nm (qr_ck (qr_nm (qr_nm (ih _ _ _))))))
def qz_levelOf (bp : qz_V) (m : Int32) (l1 l2 l3 l4 l5 l6 l7 l8 l9 : List Int32) (p0 : Int32) : Bool := qz_levelOf_7 bp m l1 l2 l3 l4 l5 l6 l7 l8 l9 8 (-1) p0 0
theorem qk_levelOf {bp : qz_V} {post : Int32 → Prop} (hp : ∀ r, bp r = true → post r) (m : Int32) (l1 l2 l3 l4 l5 l6 l7 l8 l9 : List Int32) (p0 : Int32) : qz_levelOf bp m l1 l2 l3 l4 l5 l6 l7 l8 l9 p0 = true → wpX_levelOf post (m, qz_t l1, qz_t l2, qz_t l3, qz_t l4, qz_t l5, qz_t l6, qz_t l7, qz_t l8, qz_t l9) p0 :=
  qr_fu 8 (qk_levelOf_7 hp m l1 l2 l3 l4 l5 l6 l7 l8 l9 8 (-1) p0 0)

def qz_pull_79 (bp : qz_P) (x1 x2 x3 : Int32) (m : Int32) (l1 l2 l3 l4 l5 l6 l7 l8 l9 : List Int32) : Bool := qz_in x1 && (qz_in x1 && bp m l1 l2 l3 l4 l5 l6 l7 (qz_set x1.toNatClampNeg x2 l8) (qz_set x1.toNatClampNeg x3 l9))
theorem qk_pull_79 {bp : qz_P} {post : St2 → Prop} (hp : ∀ (m : Int32) (l1 l2 l3 l4 l5 l6 l7 l8 l9 : List Int32), bp m l1 l2 l3 l4 l5 l6 l7 l8 l9 = true → post (m, qz_t l1, qz_t l2, qz_t l3, qz_t l4, qz_t l5, qz_t l6, qz_t l7, qz_t l8, qz_t l9)) (x1 x2 x3 : Int32) (m : Int32) (l1 l2 l3 l4 l5 l6 l7 l8 l9 : List Int32) : qz_pull_79 bp x1 x2 x3 m l1 l2 l3 l4 l5 l6 l7 l8 l9 = true → wX_pull_79 post x1 x2 x3 m (qz_t l1) (qz_t l2) (qz_t l3) (qz_t l4) (qz_t l5) (qz_t l6) (qz_t l7) (qz_t l8) (qz_t l9) :=
  qr_ck (qr_nu (qr_ck (qr_nu (hp _ _ _ _ _ _ _ _ _ _))))
def qz_pull_23 (bp : qz_P) (x1 : Int32) (m : Int32) (l1 l2 l3 l4 l5 l6 l7 l8 l9 : List Int32) : Nat → Int32 → Int32 → Int32 → Int32 → Bool
  | 0 => fun _ _ _ _ => false
  | n + 1 => fun x2 x3 x4 x5 => if 40 ≤ x5 then qz_pull_79 bp x1 x2 x3 m l1 l2 l3 l4 l5 l6 l7 l8 l9 else if x4 = 0 then qz_pull_79 bp x1 x2 x3 m l1 l2 l3 l4 l5 l6 l7 l8 l9 else (qz_in x4 && (qz_in x1 && (if qz_t l3 x1.toNatClampNeg = 0 then (qz_in x4 && (qz_in x4 && qz_pull_23 bp x1 m l1 l2 l3 l4 l5 l6 l7 l8 l9 n (x2 + qz_t l8 x4.toNatClampNeg) (x3 + qz_t l9 x4.toNatClampNeg) (qz_t l6 x4.toNatClampNeg) (x5 + 1))) else (qz_in x4 && qz_pull_23 bp x1 m l1 l2 l3 l4 l5 l6 l7 l8 l9 n (x2 + qz_t l8 x4.toNatClampNeg) x3 (qz_t l6 x4.toNatClampNeg) (x5 + 1)))))
theorem qk_pull_23 {bp : qz_P} {post : St2 → Prop} (hp : ∀ (m : Int32) (l1 l2 l3 l4 l5 l6 l7 l8 l9 : List Int32), bp m l1 l2 l3 l4 l5 l6 l7 l8 l9 = true → post (m, qz_t l1, qz_t l2, qz_t l3, qz_t l4, qz_t l5, qz_t l6, qz_t l7, qz_t l8, qz_t l9)) (x1 : Int32) (m : Int32) (l1 l2 l3 l4 l5 l6 l7 l8 l9 : List Int32) : ∀ (n : Nat) (x2 x3 x4 x5 : Int32), qz_pull_23 bp x1 m l1 l2 l3 l4 l5 l6 l7 l8 l9 n x2 x3 x4 x5 = true → wX_pull_23 post x1 m (qz_t l1) (qz_t l2) (qz_t l3) (qz_t l4) (qz_t l5) (qz_t l6) (qz_t l7) (qz_t l8) (qz_t l9) n x2 x3 x4 x5 := by
  intro n
  induction n with
  | zero => exact fun _ _ _ _ => qr_ff
  | succ n ih => exact fun x2 x3 x4 x5 => qr_br (qk_pull_79 hp x1 x2 x3 m l1 l2 l3 l4 l5 l6 l7 l8 l9) (qr_br (qk_pull_79 hp x1 x2 x3 m l1 l2 l3 l4 l5 l6 l7 l8 l9) (qr_ck (qr_nm (qr_ck (qr_br (qr_ck (qr_nm (qr_ck (qr_nm (qr_nm (ih _ _ _ _)))))) (qr_ck (qr_nm (qr_nm (ih _ _ _ _)))))))))
def qz_pull_9 (bp : qz_P) (x1 z0 : Int32) (m : Int32) (l1 l2 l3 l4 l5 l6 l7 l8 l9 : List Int32) : Bool := qz_in x1 && qz_pull_23 bp x1 m l1 l2 l3 l4 l5 l6 l7 l8 l9 8 z0 z0 (qz_t l5 x1.toNatClampNeg) 0
theorem qk_pull_9 {bp : qz_P} {post : St2 → Prop} (hp : ∀ (m : Int32) (l1 l2 l3 l4 l5 l6 l7 l8 l9 : List Int32), bp m l1 l2 l3 l4 l5 l6 l7 l8 l9 = true → post (m, qz_t l1, qz_t l2, qz_t l3, qz_t l4, qz_t l5, qz_t l6, qz_t l7, qz_t l8, qz_t l9)) (x1 z0 : Int32) (m : Int32) (l1 l2 l3 l4 l5 l6 l7 l8 l9 : List Int32) : qz_pull_9 bp x1 z0 m l1 l2 l3 l4 l5 l6 l7 l8 l9 = true → wX_pull_9 post x1 z0 m (qz_t l1) (qz_t l2) (qz_t l3) (qz_t l4) (qz_t l5) (qz_t l6) (qz_t l7) (qz_t l8) (qz_t l9) :=
  qr_ck (qr_nm (qr_fu 8 (qk_pull_23 hp x1 m l1 l2 l3 l4 l5 l6 l7 l8 l9 8 _ _ _ _)))
def qz_pull (bp : qz_P) (m : Int32) (l1 l2 l3 l4 l5 l6 l7 l8 l9 : List Int32) (p0 : Int32) : Bool := if p0 = 0 then qz_pull_9 bp p0 0 m l1 l2 l3 l4 l5 l6 l7 l8 l9 else qz_pull_9 bp p0 1 m l1 l2 l3 l4 l5 l6 l7 l8 l9
theorem qk_pull {bp : qz_P} {post : St2 → Prop} (hp : ∀ (m : Int32) (l1 l2 l3 l4 l5 l6 l7 l8 l9 : List Int32), bp m l1 l2 l3 l4 l5 l6 l7 l8 l9 = true → post (m, qz_t l1, qz_t l2, qz_t l3, qz_t l4, qz_t l5, qz_t l6, qz_t l7, qz_t l8, qz_t l9)) (m : Int32) (l1 l2 l3 l4 l5 l6 l7 l8 l9 : List Int32) (p0 : Int32) : qz_pull bp m l1 l2 l3 l4 l5 l6 l7 l8 l9 p0 = true → wpX_pull post (m, qz_t l1, qz_t l2, qz_t l3, qz_t l4, qz_t l5, qz_t l6, qz_t l7, qz_t l8, qz_t l9) p0 :=
  qr_br (qk_pull_9 hp p0 0 m l1 l2 l3 l4 l5 l6 l7 l8 l9) (qk_pull_9 hp p0 1 m l1 l2 l3 l4 l5 l6 l7 l8 l9)

def qz_fresh_5 (bp : qz_R) (m : Int32) (l1 l2 l3 l4 l5 l6 l7 l8 l9 : List Int32) : Nat → Int32 → Int32 → Bool
  | 0 => fun _ _ => false
  | n + 1 => fun x1 x2 => if x2 ≤ 0 then (qz_in x1 && (qz_in x1 && (qz_in x1 && (qz_in x1 && qz_pull (bp x1) (m + 1) (qz_set x1.toNatClampNeg 1 l1) (qz_set x1.toNatClampNeg m l2) (qz_set x1.toNatClampNeg 0 l3) l4 (qz_set x1.toNatClampNeg 0 l5) l6 l7 l8 l9 x1)))) else (qz_in x2 && (if qz_t l1 x2.toNatClampNeg = 0 then qz_fresh_5 bp m l1 l2 l3 l4 l5 l6 l7 l8 l9 n x2 (x2 + (-1)) else qz_fresh_5 bp m l1 l2 l3 l4 l5 l6 l7 l8 l9 n x1 (x2 + (-1))))
theorem qk_fresh_5 {bp : qz_R} {post : Int32 → St2 → Prop} (hp : ∀ (r : Int32) (m : Int32) (l1 l2 l3 l4 l5 l6 l7 l8 l9 : List Int32), bp r m l1 l2 l3 l4 l5 l6 l7 l8 l9 = true → post r (m, qz_t l1, qz_t l2, qz_t l3, qz_t l4, qz_t l5, qz_t l6, qz_t l7, qz_t l8, qz_t l9)) (m : Int32) (l1 l2 l3 l4 l5 l6 l7 l8 l9 : List Int32) : ∀ (n : Nat) (x1 x2 : Int32), qz_fresh_5 bp m l1 l2 l3 l4 l5 l6 l7 l8 l9 n x1 x2 = true → wX_fresh_5 post m (qz_t l1) (qz_t l2) (qz_t l3) (qz_t l4) (qz_t l5) (qz_t l6) (qz_t l7) (qz_t l8) (qz_t l9) n x1 x2 := by
  intro n
  induction n with
  | zero => exact fun _ _ => qr_ff
  | succ n ih => exact fun x1 x2 => qr_br (qr_ck (qr_nu (qr_ck (qr_nu (qr_nm (qr_ck (qr_nu (qr_ck (qr_nu (qk_pull (hp x1) _ _ _ _ _ _ _ _ _ _ x1)))))))))) (qr_ck (qr_br (qr_nm (ih _ _)) (qr_nm (ih _ _))))
def qz_fresh (bp : qz_R) (m : Int32) (l1 l2 l3 l4 l5 l6 l7 l8 l9 : List Int32) : Bool := qz_fresh_5 bp m l1 l2 l3 l4 l5 l6 l7 l8 l9 41 1 40
theorem qk_fresh {bp : qz_R} {post : Int32 → St2 → Prop} (hp : ∀ (r : Int32) (m : Int32) (l1 l2 l3 l4 l5 l6 l7 l8 l9 : List Int32), bp r m l1 l2 l3 l4 l5 l6 l7 l8 l9 = true → post r (m, qz_t l1, qz_t l2, qz_t l3, qz_t l4, qz_t l5, qz_t l6, qz_t l7, qz_t l8, qz_t l9)) (m : Int32) (l1 l2 l3 l4 l5 l6 l7 l8 l9 : List Int32) : qz_fresh bp m l1 l2 l3 l4 l5 l6 l7 l8 l9 = true → wpX_fresh post (m, qz_t l1, qz_t l2, qz_t l3, qz_t l4, qz_t l5, qz_t l6, qz_t l7, qz_t l8, qz_t l9) :=
  qr_fu 41 (qk_fresh_5 hp m l1 l2 l3 l4 l5 l6 l7 l8 l9 41 1 40)

def qz_lastChild_12 (bp : qz_V) (m : Int32) (l1 l2 l3 l4 l5 l6 l7 l8 l9 : List Int32) : Nat → Int32 → Int32 → Int32 → Bool
  | 0 => fun _ _ _ => false
  | n + 1 => fun x2 x3 x4 => if 40 ≤ x4 then bp x2 else if x3 = 0 then bp x2 else (qz_in x3 && qz_lastChild_12 bp m l1 l2 l3 l4 l5 l6 l7 l8 l9 n x3 (qz_t l6 x3.toNatClampNeg) (x4 + 1))
theorem qk_lastChild_12 {bp : qz_V} {post : Int32 → Prop} (hp : ∀ r, bp r = true → post r) (m : Int32) (l1 l2 l3 l4 l5 l6 l7 l8 l9 : List Int32) : ∀ (n : Nat) (x2 x3 x4 : Int32), qz_lastChild_12 bp m l1 l2 l3 l4 l5 l6 l7 l8 l9 n x2 x3 x4 = true → wX_lastChild_12 post m (qz_t l1) (qz_t l2) (qz_t l3) (qz_t l4) (qz_t l5) (qz_t l6) (qz_t l7) (qz_t l8) (qz_t l9) n x2 x3 x4 := by
  intro n
  induction n with
  | zero => exact fun _ _ _ => qr_ff
  | succ n ih => exact fun x2 x3 x4 => qr_br (hp _) (qr_br (hp _) (qr_ck (qr_nm (qr_nm (ih _ _ _)))))
def qz_lastChild (bp : qz_V) (m : Int32) (l1 l2 l3 l4 l5 l6 l7 l8 l9 : List Int32) (p0 : Int32) : Bool := qz_in p0 && qz_lastChild_12 bp m l1 l2 l3 l4 l5 l6 l7 l8 l9 8 0 (qz_t l5 p0.toNatClampNeg) 0
theorem qk_lastChild {bp : qz_V} {post : Int32 → Prop} (hp : ∀ r, bp r = true → post r) (m : Int32) (l1 l2 l3 l4 l5 l6 l7 l8 l9 : List Int32) (p0 : Int32) : qz_lastChild bp m l1 l2 l3 l4 l5 l6 l7 l8 l9 p0 = true → wpX_lastChild post (m, qz_t l1, qz_t l2, qz_t l3, qz_t l4, qz_t l5, qz_t l6, qz_t l7, qz_t l8, qz_t l9) p0 :=
  qr_ck (qr_nm (qr_fu 8 (qk_lastChild_12 hp m l1 l2 l3 l4 l5 l6 l7 l8 l9 8 _ _ _)))

def qz_pullUp_4 (bp : qz_P) : Nat → Int32 → Int32 → Int32 → List Int32 → List Int32 → List Int32 → List Int32 → List Int32 → List Int32 → List Int32 → List Int32 → List Int32 → Bool
  | 0 => fun _ _ _ _ _ _ _ _ _ _ _ _ => false
  | n + 1 => fun x2 x3 m l1 l2 l3 l4 l5 l6 l7 l8 l9 => if 40 ≤ x3 then qz_pull bp m l1 l2 l3 l4 l5 l6 l7 l8 l9 0 else if x2 = 0 then qz_pull bp m l1 l2 l3 l4 l5 l6 l7 l8 l9 0 else qz_pull (fun m l1 l2 l3 l4 l5 l6 l7 l8 l9 => (qz_in x2 && qz_pullUp_4 bp n (qz_t l4 x2.toNatClampNeg) (x3 + 1) m l1 l2 l3 l4 l5 l6 l7 l8 l9)) m l1 l2 l3 l4 l5 l6 l7 l8 l9 x2
theorem qk_pullUp_32 {bp : qz_P} {post : St2 → Prop} (hp : ∀ (m : Int32) (l1 l2 l3 l4 l5 l6 l7 l8 l9 : List Int32), bp m l1 l2 l3 l4 l5 l6 l7 l8 l9 = true → post (m, qz_t l1, qz_t l2, qz_t l3, qz_t l4, qz_t l5, qz_t l6, qz_t l7, qz_t l8, qz_t l9)) (m : Int32) (l1 l2 l3 l4 l5 l6 l7 l8 l9 : List Int32) : qz_pull bp m l1 l2 l3 l4 l5 l6 l7 l8 l9 0 = true → wX_pullUp_32 post m (qz_t l1) (qz_t l2) (qz_t l3) (qz_t l4) (qz_t l5) (qz_t l6) (qz_t l7) (qz_t l8) (qz_t l9) :=
  qk_pull (fun m l1 l2 l3 l4 l5 l6 l7 l8 l9 => hp m l1 l2 l3 l4 l5 l6 l7 l8 l9) m l1 l2 l3 l4 l5 l6 l7 l8 l9 0
theorem qk_pullUp_4 {bp : qz_P} {post : St2 → Prop} (hp : ∀ (m : Int32) (l1 l2 l3 l4 l5 l6 l7 l8 l9 : List Int32), bp m l1 l2 l3 l4 l5 l6 l7 l8 l9 = true → post (m, qz_t l1, qz_t l2, qz_t l3, qz_t l4, qz_t l5, qz_t l6, qz_t l7, qz_t l8, qz_t l9)) : ∀ (n : Nat) (x2 x3 : Int32) (m : Int32) (l1 l2 l3 l4 l5 l6 l7 l8 l9 : List Int32), qz_pullUp_4 bp n x2 x3 m l1 l2 l3 l4 l5 l6 l7 l8 l9 = true → wX_pullUp_4 post n x2 x3 m (qz_t l1) (qz_t l2) (qz_t l3) (qz_t l4) (qz_t l5) (qz_t l6) (qz_t l7) (qz_t l8) (qz_t l9) := by
  intro n
  induction n with
  | zero => exact fun _ _ _ _ _ _ _ _ _ _ _ _ => qr_ff
  | succ n ih =>
    intro x2 x3 m l1 l2 l3 l4 l5 l6 l7 l8 l9
    refine qr_br (qk_pullUp_32 hp m l1 l2 l3 l4 l5 l6 l7 l8 l9) (qr_br (qk_pullUp_32 hp m l1 l2 l3 l4 l5 l6 l7 l8 l9) (qk_pull (fun m l1 l2 l3 l4 l5 l6 l7 l8 l9 => ?_) m l1 l2 l3 l4 l5 l6 l7 l8 l9 x2))
    refine qr_ck ?_
    refine qr_nm ?_
    refine qr_nm ?_
    exact ih _ _ m l1 l2 l3 l4 l5 l6 l7 l8 l9
def qz_pullUp (bp : qz_P) (m : Int32) (l1 l2 l3 l4 l5 l6 l7 l8 l9 : List Int32) (p0 : Int32) : Bool := qz_pullUp_4 bp 8 p0 0 m l1 l2 l3 l4 l5 l6 l7 l8 l9
theorem qk_pullUp {bp : qz_P} {post : St2 → Prop} (hp : ∀ (m : Int32) (l1 l2 l3 l4 l5 l6 l7 l8 l9 : List Int32), bp m l1 l2 l3 l4 l5 l6 l7 l8 l9 = true → post (m, qz_t l1, qz_t l2, qz_t l3, qz_t l4, qz_t l5, qz_t l6, qz_t l7, qz_t l8, qz_t l9)) (m : Int32) (l1 l2 l3 l4 l5 l6 l7 l8 l9 : List Int32) (p0 : Int32) : qz_pullUp bp m l1 l2 l3 l4 l5 l6 l7 l8 l9 p0 = true → wpX_pullUp post (m, qz_t l1, qz_t l2, qz_t l3, qz_t l4, qz_t l5, qz_t l6, qz_t l7, qz_t l8, qz_t l9) p0 :=
  qr_fu 8 (qk_pullUp_4 hp 8 p0 0 m l1 l2 l3 l4 l5 l6 l7 l8 l9)

theorem qk_link_77 {bp : qz_P} {post : St2 → Prop} (hp : ∀ (m : Int32) (l1 l2 l3 l4 l5 l6 l7 l8 l9 : List Int32), bp m l1 l2 l3 l4 l5 l6 l7 l8 l9 = true → post (m, qz_t l1, qz_t l2, qz_t l3, qz_t l4, qz_t l5, qz_t l6, qz_t l7, qz_t l8, qz_t l9)) (x2 : Int32) (m : Int32) (l1 l2 l3 l4 l5 l6 l7 l8 l9 : List Int32) : qz_pullUp bp m l1 l2 l3 l4 l5 l6 l7 l8 l9 x2 = true → wX_link_77 post x2 m (qz_t l1) (qz_t l2) (qz_t l3) (qz_t l4) (qz_t l5) (qz_t l6) (qz_t l7) (qz_t l8) (qz_t l9) :=
  qk_pullUp (fun m l1 l2 l3 l4 l5 l6 l7 l8 l9 => hp m l1 l2 l3 l4 l5 l6 l7 l8 l9) m l1 l2 l3 l4 l5 l6 l7 l8 l9 x2
def qz_link_64 (bp : qz_P) (x1 x2 x4 : Int32) (m : Int32) (l1 l2 l3 l4 l5 l6 l7 l8 l9 : List Int32) : Bool := if x4 = 0 then qz_pullUp bp m l1 l2 l3 l4 l5 l6 l7 l8 l9 x2 else (qz_in x4 && qz_pullUp bp m l1 l2 l3 l4 l5 l6 (qz_set x4.toNatClampNeg x1 l7) l8 l9 x2)
theorem qk_link_64 {bp : qz_P} {post : St2 → Prop} (hp : ∀ (m : Int32) (l1 l2 l3 l4 l5 l6 l7 l8 l9 : List Int32), bp m l1 l2 l3 l4 l5 l6 l7 l8 l9 = true → post (m, qz_t l1, qz_t l2, qz_t l3, qz_t l4, qz_t l5, qz_t l6, qz_t l7, qz_t l8, qz_t l9)) (x1 x2 x4 : Int32) (m : Int32) (l1 l2 l3 l4 l5 l6 l7 l8 l9 : List Int32) : qz_link_64 bp x1 x2 x4 m l1 l2 l3 l4 l5 l6 l7 l8 l9 = true → wX_link_64 post x1 x2 x4 m (qz_t l1) (qz_t l2) (qz_t l3) (qz_t l4) (qz_t l5) (qz_t l6) (qz_t l7) (qz_t l8) (qz_t l9) :=
  qr_br (qk_link_77 hp x2 m l1 l2 l3 l4 l5 l6 l7 l8 l9) (qr_ck (qr_nu (qk_link_77 hp x2 _ _ _ _ _ _ _ _ _ _)))
def qz_link_33 (bp : qz_P) (x1 x2 x3 z0 : Int32) (m : Int32) (l1 l2 l3 l4 l5 l6 l7 l8 l9 : List Int32) : Bool := qz_in x1 && (if x3 = 0 then (qz_in x2 && qz_link_64 bp x1 x2 z0 m l1 l2 l3 l4 (qz_set x2.toNatClampNeg x1 l5) (qz_set x1.toNatClampNeg z0 l6) l7 l8 l9) else (qz_in x3 && qz_link_64 bp x1 x2 z0 m l1 l2 l3 l4 l5 (qz_set x3.toNatClampNeg x1 (qz_set x1.toNatClampNeg z0 l6)) l7 l8 l9))
theorem qk_link_33 {bp : qz_P} {post : St2 → Prop} (hp : ∀ (m : Int32) (l1 l2 l3 l4 l5 l6 l7 l8 l9 : List Int32), bp m l1 l2 l3 l4 l5 l6 l7 l8 l9 = true → post (m, qz_t l1, qz_t l2, qz_t l3, qz_t l4, qz_t l5, qz_t l6, qz_t l7, qz_t l8, qz_t l9)) (x1 x2 x3 z0 : Int32) (m : Int32) (l1 l2 l3 l4 l5 l6 l7 l8 l9 : List Int32) : qz_link_33 bp x1 x2 x3 z0 m l1 l2 l3 l4 l5 l6 l7 l8 l9 = true → wX_link_33 post x1 x2 x3 z0 m (qz_t l1) (qz_t l2) (qz_t l3) (qz_t l4) (qz_t l5) (qz_t l6) (qz_t l7) (qz_t l8) (qz_t l9) :=
  qr_ck (qr_nu (qr_br (qr_ck (qr_nu (qk_link_64 hp x1 x2 z0 _ _ _ _ _ _ _ _ _ _))) (qr_ck (qr_nu (qk_link_64 hp x1 x2 z0 _ _ _ _ _ _ _ _ _ _)))))
def qz_link (bp : qz_P) (m : Int32) (l1 l2 l3 l4 l5 l6 l7 l8 l9 : List Int32) (p0 p1 p2 : Int32) : Bool := qz_in p0 && (qz_in p0 && (if p2 = 0 then (qz_in p1 && qz_link_33 bp p0 p1 p2 (qz_t l5 p1.toNatClampNeg) m l1 l2 l3 (qz_set p0.toNatClampNeg p1 l4) l5 l6 (qz_set p0.toNatClampNeg p2 l7) l8 l9) else (qz_in p2 && qz_link_33 bp p0 p1 p2 (qz_t l6 p2.toNatClampNeg) m l1 l2 l3 (qz_set p0.toNatClampNeg p1 l4) l5 l6 (qz_set p0.toNatClampNeg p2 l7) l8 l9)))
theorem qk_link {bp : qz_P} {post : St2 → Prop} (hp : ∀ (m : Int32) (l1 l2 l3 l4 l5 l6 l7 l8 l9 : List Int32), bp m l1 l2 l3 l4 l5 l6 l7 l8 l9 = true → post (m, qz_t l1, qz_t l2, qz_t l3, qz_t l4, qz_t l5, qz_t l6, qz_t l7, qz_t l8, qz_t l9)) (m : Int32) (l1 l2 l3 l4 l5 l6 l7 l8 l9 : List Int32) (p0 p1 p2 : Int32) : qz_link bp m l1 l2 l3 l4 l5 l6 l7 l8 l9 p0 p1 p2 = true → wpX_link post (m, qz_t l1, qz_t l2, qz_t l3, qz_t l4, qz_t l5, qz_t l6, qz_t l7, qz_t l8, qz_t l9) p0 p1 p2 :=
  qr_ck (qr_nu (qr_ck (qr_nu (qr_br (qr_ck (qk_link_33 hp p0 p1 p2 _ _ _ _ _ _ _ _ _ _ _)) (qr_ck (qk_link_33 hp p0 p1 p2 _ _ _ _ _ _ _ _ _ _ _))))))

def qz_nodeAt_12 (bp : qz_V) (m : Int32) (l1 l2 l3 l4 l5 l6 l7 l8 l9 : List Int32) : Nat → Int32 → Int32 → Int32 → Bool
  | 0 => fun _ _ _ => false
  | n + 1 => fun x2 x3 x4 => if 80 ≤ x4 then bp x2 else if x3 < 0 then bp x2 else if x2 = 0 then bp x2 else if x3 = 0 then bp x2 else (qz_in x2 && (if x3 < qz_t l8 x2.toNatClampNeg then (qz_in x2 && qz_nodeAt_12 bp m l1 l2 l3 l4 l5 l6 l7 l8 l9 n (qz_t l5 x2.toNatClampNeg) (x3 + (-1)) (x4 + 1)) else (qz_in x2 && (qz_in x2 && qz_nodeAt_12 bp m l1 l2 l3 l4 l5 l6 l7 l8 l9 n (qz_t l6 x2.toNatClampNeg) (x3 - qz_t l8 x2.toNatClampNeg) (x4 + 1)))))
theorem qk_nodeAt_12 {bp : qz_V} {post : Int32 → Prop} (hp : ∀ r, bp r = true → post r) (m : Int32) (l1 l2 l3 l4 l5 l6 l7 l8 l9 : List Int32) : ∀ (n : Nat) (x2 x3 x4 : Int32), qz_nodeAt_12 bp m l1 l2 l3 l4 l5 l6 l7 l8 l9 n x2 x3 x4 = true → wX_nodeAt_12 post m (qz_t l1) (qz_t l2) (qz_t l3) (qz_t l4) (qz_t l5) (qz_t l6) (qz_t l7) (qz_t l8) (qz_t l9) n x2 x3 x4 := by
  intro n
  induction n with
  | zero => exact fun _ _ _ => qr_ff
  | succ n ih => exact fun x2 x3 x4 => qr_br (hp _) (qr_br (hp _) (qr_br (hp _) (qr_br (hp _) (qr_ck (qr_br (qr_nm (qr_ck (qr_nm (qr_nm (ih _ _ _))))) (qr_ck (qr_nm (qr_ck (qr_nm (qr_nm (ih _ _ _)))))))))))
def qz_nodeAt (bp : qz_V) (m : Int32) (l1 l2 l3 l4 l5 l6 l7 l8 l9 : List Int32) (p0 : Int32) : Bool := qz_nodeAt_12 bp m l1 l2 l3 l4 l5 l6 l7 l8 l9 8 (qz_t l5 0) p0 0
theorem qk_nodeAt {bp : qz_V} {post : Int32 → Prop} (hp : ∀ r, bp r = true → post r) (m : Int32) (l1 l2 l3 l4 l5 l6 l7 l8 l9 : List Int32) (p0 : Int32) : qz_nodeAt bp m l1 l2 l3 l4 l5 l6 l7 l8 l9 p0 = true → wpX_nodeAt post (m, qz_t l1, qz_t l2, qz_t l3, qz_t l4, qz_t l5, qz_t l6, qz_t l7, qz_t l8, qz_t l9) p0 :=
  qr_nm (qr_fu 8 (qk_nodeAt_12 hp m l1 l2 l3 l4 l5 l6 l7 l8 l9 8 _ _ _))

def qz_bad (bp : qz_V) (m : Int32) (l1 l2 l3 l4 l5 l6 l7 l8 l9 : List Int32) (p0 : Int32) : Bool := if p0 < 0 then bp 1 else if p0 < qz_t l8 0 then bp 0 else bp 1
theorem qk_bad {bp : qz_V} {post : Int32 → Prop} (hp : ∀ r, bp r = true → post r) (m : Int32) (l1 l2 l3 l4 l5 l6 l7 l8 l9 : List Int32) (p0 : Int32) : qz_bad bp m l1 l2 l3 l4 l5 l6 l7 l8 l9 p0 = true → wpX_bad post (m, qz_t l1, qz_t l2, qz_t l3, qz_t l4, qz_t l5, qz_t l6, qz_t l7, qz_t l8, qz_t l9) p0 :=
  qr_br (hp _) (qr_br (hp _) (hp _))

def qz_add_65 (bp : qz_R) (x1 : Int32) (m : Int32) (l1 l2 l3 l4 l5 l6 l7 l8 l9 : List Int32) : Nat → Int32 → Int32 → Bool
  | 0 => fun _ _ => false
  | n + 1 => fun x2 x4 => if x4 < x1 then qz_fresh (fun r => fun m l1 l2 l3 l4 l5 l6 l7 l8 l9 => qz_lastChild (fun q => qz_link (fun m l1 l2 l3 l4 l5 l6 l7 l8 l9 => (qz_in r && bp (qz_t l2 r.toNatClampNeg) m l1 l2 l3 l4 l5 l6 l7 l8 l9)) m l1 l2 l3 l4 l5 l6 l7 l8 l9 r x2 q) m l1 l2 l3 l4 l5 l6 l7 l8 l9 x2) m l1 l2 l3 l4 l5 l6 l7 l8 l9 else (qz_in x2 && qz_add_65 bp x1 m l1 l2 l3 l4 l5 l6 l7 l8 l9 n (qz_t l4 x2.toNatClampNeg) (x4 + (-1)))
theorem qk_add_65 {bp : qz_R} {post : Int32 → St2 → Prop} (hp : ∀ (r : Int32) (m : Int32) (l1 l2 l3 l4 l5 l6 l7 l8 l9 : List Int32), bp r m l1 l2 l3 l4 l5 l6 l7 l8 l9 = true → post r (m, qz_t l1, qz_t l2, qz_t l3, qz_t l4, qz_t l5, qz_t l6, qz_t l7, qz_t l8, qz_t l9)) (x1 : Int32) (m : Int32) (l1 l2 l3 l4 l5 l6 l7 l8 l9 : List Int32) : ∀ (n : Nat) (x2 x4 : Int32), qz_add_65 bp x1 m l1 l2 l3 l4 l5 l6 l7 l8 l9 n x2 x4 = true → wX_add_65 post x1 m (qz_t l1) (qz_t l2) (qz_t l3) (qz_t l4) (qz_t l5) (qz_t l6) (qz_t l7) (qz_t l8) (qz_t l9) n x2 x4 := by
  intro n
  induction n with
  | zero => exact fun _ _ => qr_ff
  | succ n ih => exact fun x2 x4 => qr_br (qk_fresh (fun r m l1 l2 l3 l4 l5 l6 l7 l8 l9 => qk_lastChild (fun q => qk_link (fun m l1 l2 l3 l4 l5 l6 l7 l8 l9 => qr_ck (hp _ m l1 l2 l3 l4 l5 l6 l7 l8 l9)) m l1 l2 l3 l4 l5 l6 l7 l8 l9 r x2 q) m l1 l2 l3 l4 l5 l6 l7 l8 l9 x2) m l1 l2 l3 l4 l5 l6 l7 l8 l9) (qr_ck (qr_nm (qr_nm (ih _ _))))
def qz_add_46 (bp : qz_R) (x1 x2 : Int32) (m : Int32) (l1 l2 l3 l4 l5 l6 l7 l8 l9 : List Int32) : Bool := qz_levelOf (fun r => if x1 ≤ r + 1 then qz_add_65 bp x1 m l1 l2 l3 l4 l5 l6 l7 l8 l9 8 x2 r else bp (-4) m l1 l2 l3 l4 l5 l6 l7 l8 l9) m l1 l2 l3 l4 l5 l6 l7 l8 l9 x2
theorem qk_add_46 {bp : qz_R} {post : Int32 → St2 → Prop} (hp : ∀ (r : Int32) (m : Int32) (l1 l2 l3 l4 l5 l6 l7 l8 l9 : List Int32), bp r m l1 l2 l3 l4 l5 l6 l7 l8 l9 = true → post r (m, qz_t l1, qz_t l2, qz_t l3, qz_t l4, qz_t l5, qz_t l6, qz_t l7, qz_t l8, qz_t l9)) (x1 x2 : Int32) (m : Int32) (l1 l2 l3 l4 l5 l6 l7 l8 l9 : List Int32) : qz_add_46 bp x1 x2 m l1 l2 l3 l4 l5 l6 l7 l8 l9 = true → wX_add_46 post x1 x2 m (qz_t l1) (qz_t l2) (qz_t l3) (qz_t l4) (qz_t l5) (qz_t l6) (qz_t l7) (qz_t l8) (qz_t l9) := by
  unfold qz_add_46 wX_add_46
  exact qk_levelOf (fun r => qr_br (qr_fu 8 (qk_add_65 hp x1 m l1 l2 l3 l4 l5 l6 l7 l8 l9 8 _ _)) (hp _ m l1 l2 l3 l4 l5 l6 l7 l8 l9)) m l1 l2 l3 l4 l5 l6 l7 l8 l9 x2
def qz_add (bp : qz_R) (m : Int32) (l1 l2 l3 l4 l5 l6 l7 l8 l9 : List Int32) (p0 : Int32) : Bool := if p0 < 0 then bp (-1) m l1 l2 l3 l4 l5 l6 l7 l8 l9 else if p0 ≤ 7 then qz_full (fun r => if r = 0 then (if qz_t l8 0 ≤ 0 then qz_add_46 bp p0 0 m l1 l2 l3 l4 l5 l6 l7 l8 l9 else qz_nodeAt (fun q => qz_add_46 bp p0 q m l1 l2 l3 l4 l5 l6 l7 l8 l9) m l1 l2 l3 l4 l5 l6 l7 l8 l9 (qz_t l8 0 - 1)) else bp (-2) m l1 l2 l3 l4 l5 l6 l7 l8 l9) m l1 l2 l3 l4 l5 l6 l7 l8 l9 else bp (-1) m l1 l2 l3 l4 l5 l6 l7 l8 l9
theorem qk_add {bp : qz_R} {post : Int32 → St2 → Prop} (hp : ∀ (r : Int32) (m : Int32) (l1 l2 l3 l4 l5 l6 l7 l8 l9 : List Int32), bp r m l1 l2 l3 l4 l5 l6 l7 l8 l9 = true → post r (m, qz_t l1, qz_t l2, qz_t l3, qz_t l4, qz_t l5, qz_t l6, qz_t l7, qz_t l8, qz_t l9)) (m : Int32) (l1 l2 l3 l4 l5 l6 l7 l8 l9 : List Int32) (p0 : Int32) : qz_add bp m l1 l2 l3 l4 l5 l6 l7 l8 l9 p0 = true → wpX_add post (m, qz_t l1, qz_t l2, qz_t l3, qz_t l4, qz_t l5, qz_t l6, qz_t l7, qz_t l8, qz_t l9) p0 :=
  qr_br (hp _ m l1 l2 l3 l4 l5 l6 l7 l8 l9) (qr_br (qk_full (fun r => qr_br (qr_br (qk_add_46 hp p0 0 m l1 l2 l3 l4 l5 l6 l7 l8 l9) (qk_nodeAt (fun q => qk_add_46 hp p0 q m l1 l2 l3 l4 l5 l6 l7 l8 l9) m l1 l2 l3 l4 l5 l6 l7 l8 l9 _)) (hp _ m l1 l2 l3 l4 l5 l6 l7 l8 l9)) m l1 l2 l3 l4 l5 l6 l7 l8 l9) (hp _ m l1 l2 l3 l4 l5 l6 l7 l8 l9))

def qz_addUnder (bp : qz_R) (m : Int32) (l1 l2 l3 l4 l5 l6 l7 l8 l9 : List Int32) (p0 : Int32) : Bool := qz_bad (fun a => if a = 0 then qz_full (fun b => if b = 0 then qz_nodeAt (fun p => qz_levelOf (fun q => if q = 7 then bp (-4) m l1 l2 l3 l4 l5 l6 l7 l8 l9 else qz_fresh (fun r => fun m l1 l2 l3 l4 l5 l6 l7 l8 l9 => qz_link (fun m l1 l2 l3 l4 l5 l6 l7 l8 l9 => (qz_in r && bp (qz_t l2 r.toNatClampNeg) m l1 l2 l3 l4 l5 l6 l7 l8 l9)) m l1 l2 l3 l4 l5 l6 l7 l8 l9 r p 0) m l1 l2 l3 l4 l5 l6 l7 l8 l9) m l1 l2 l3 l4 l5 l6 l7 l8 l9 p) m l1 l2 l3 l4 l5 l6 l7 l8 l9 p0 else bp (-2) m l1 l2 l3 l4 l5 l6 l7 l8 l9) m l1 l2 l3 l4 l5 l6 l7 l8 l9 else bp (-1) m l1 l2 l3 l4 l5 l6 l7 l8 l9) m l1 l2 l3 l4 l5 l6 l7 l8 l9 p0
theorem qk_addUnder {bp : qz_R} {post : Int32 → St2 → Prop} (hp : ∀ (r : Int32) (m : Int32) (l1 l2 l3 l4 l5 l6 l7 l8 l9 : List Int32), bp r m l1 l2 l3 l4 l5 l6 l7 l8 l9 = true → post r (m, qz_t l1, qz_t l2, qz_t l3, qz_t l4, qz_t l5, qz_t l6, qz_t l7, qz_t l8, qz_t l9)) (m : Int32) (l1 l2 l3 l4 l5 l6 l7 l8 l9 : List Int32) (p0 : Int32) : qz_addUnder bp m l1 l2 l3 l4 l5 l6 l7 l8 l9 p0 = true → wpX_addUnder post (m, qz_t l1, qz_t l2, qz_t l3, qz_t l4, qz_t l5, qz_t l6, qz_t l7, qz_t l8, qz_t l9) p0 := by
  unfold qz_addUnder wpX_addUnder
  exact qk_bad (fun a => qr_br (qk_full (fun b => qr_br (qk_nodeAt (fun p => qk_levelOf (fun q => qr_br (hp _ m l1 l2 l3 l4 l5 l6 l7 l8 l9) (qk_fresh (fun r m l1 l2 l3 l4 l5 l6 l7 l8 l9 => qk_link (fun m l1 l2 l3 l4 l5 l6 l7 l8 l9 => qr_ck (hp _ m l1 l2 l3 l4 l5 l6 l7 l8 l9)) m l1 l2 l3 l4 l5 l6 l7 l8 l9 r p 0) m l1 l2 l3 l4 l5 l6 l7 l8 l9)) m l1 l2 l3 l4 l5 l6 l7 l8 l9 p) m l1 l2 l3 l4 l5 l6 l7 l8 l9 p0) (hp _ m l1 l2 l3 l4 l5 l6 l7 l8 l9)) m l1 l2 l3 l4 l5 l6 l7 l8 l9) (hp _ m l1 l2 l3 l4 l5 l6 l7 l8 l9)) m l1 l2 l3 l4 l5 l6 l7 l8 l9 p0
def qz_addAfter (bp : qz_R) (m : Int32) (l1 l2 l3 l4 l5 l6 l7 l8 l9 : List Int32) (p0 : Int32) : Bool := qz_bad (fun a => if a = 0 then qz_full (fun b => if b = 0 then qz_nodeAt (fun p => qz_fresh (fun r => fun m l1 l2 l3 l4 l5 l6 l7 l8 l9 => (qz_in p && qz_link (fun m l1 l2 l3 l4 l5 l6 l7 l8 l9 => (qz_in r && bp (qz_t l2 r.toNatClampNeg) m l1 l2 l3 l4 l5 l6 l7 l8 l9)) m l1 l2 l3 l4 l5 l6 l7 l8 l9 r (qz_t l4 p.toNatClampNeg) p)) m l1 l2 l3 l4 l5 l6 l7 l8 l9) m l1 l2 l3 l4 l5 l6 l7 l8 l9 p0 else bp (-2) m l1 l2 l3 l4 l5 l6 l7 l8 l9) m l1 l2 l3 l4 l5 l6 l7 l8 l9 else bp (-1) m l1 l2 l3 l4 l5 l6 l7 l8 l9) m l1 l2 l3 l4 l5 l6 l7 l8 l9 p0
theorem qk_addAfter {bp : qz_R} {post : Int32 → St2 → Prop} (hp : ∀ (r : Int32) (m : Int32) (l1 l2 l3 l4 l5 l6 l7 l8 l9 : List Int32), bp r m l1 l2 l3 l4 l5 l6 l7 l8 l9 = true → post r (m, qz_t l1, qz_t l2, qz_t l3, qz_t l4, qz_t l5, qz_t l6, qz_t l7, qz_t l8, qz_t l9)) (m : Int32) (l1 l2 l3 l4 l5 l6 l7 l8 l9 : List Int32) (p0 : Int32) : qz_addAfter bp m l1 l2 l3 l4 l5 l6 l7 l8 l9 p0 = true → wpX_addAfter post (m, qz_t l1, qz_t l2, qz_t l3, qz_t l4, qz_t l5, qz_t l6, qz_t l7, qz_t l8, qz_t l9) p0 := by
  unfold qz_addAfter wpX_addAfter
  exact qk_bad (fun a => qr_br (qk_full (fun b => qr_br (qk_nodeAt (fun p => qk_fresh (fun r m l1 l2 l3 l4 l5 l6 l7 l8 l9 => qr_ck (qk_link (fun m l1 l2 l3 l4 l5 l6 l7 l8 l9 => qr_ck (hp _ m l1 l2 l3 l4 l5 l6 l7 l8 l9)) m l1 l2 l3 l4 l5 l6 l7 l8 l9 r _ p)) m l1 l2 l3 l4 l5 l6 l7 l8 l9) m l1 l2 l3 l4 l5 l6 l7 l8 l9 p0) (hp _ m l1 l2 l3 l4 l5 l6 l7 l8 l9)) m l1 l2 l3 l4 l5 l6 l7 l8 l9) (hp _ m l1 l2 l3 l4 l5 l6 l7 l8 l9)) m l1 l2 l3 l4 l5 l6 l7 l8 l9 p0

theorem qk_unlink_74 {bp : qz_P} {post : St2 → Prop} (hp : ∀ (m : Int32) (l1 l2 l3 l4 l5 l6 l7 l8 l9 : List Int32), bp m l1 l2 l3 l4 l5 l6 l7 l8 l9 = true → post (m, qz_t l1, qz_t l2, qz_t l3, qz_t l4, qz_t l5, qz_t l6, qz_t l7, qz_t l8, qz_t l9)) (x2 : Int32) (m : Int32) (l1 l2 l3 l4 l5 l6 l7 l8 l9 : List Int32) : qz_pullUp bp m l1 l2 l3 l4 l5 l6 l7 l8 l9 x2 = true → wX_unlink_74 post x2 m (qz_t l1) (qz_t l2) (qz_t l3) (qz_t l4) (qz_t l5) (qz_t l6) (qz_t l7) (qz_t l8) (qz_t l9) :=
  qk_pullUp (fun m l1 l2 l3 l4 l5 l6 l7 l8 l9 => hp m l1 l2 l3 l4 l5 l6 l7 l8 l9) m l1 l2 l3 l4 l5 l6 l7 l8 l9 x2
def qz_unlink_48 (bp : qz_P) (x1 x2 : Int32) (m : Int32) (l1 l2 l3 l4 l5 l6 l7 l8 l9 : List Int32) : Bool := qz_in x1 && (if qz_t l6 x1.toNatClampNeg = 0 then qz_pullUp bp m l1 l2 l3 l4 l5 l6 l7 l8 l9 x2 else (qz_in x1 && (qz_in x1 && (qz_in (qz_t l6 x1.toNatClampNeg) && qz_pullUp bp m l1 l2 l3 l4 l5 l6 (qz_set (qz_t l6 x1.toNatClampNeg).toNatClampNeg (qz_t l7 x1.toNatClampNeg) l7) l8 l9 x2))))
theorem qk_unlink_48 {bp : qz_P} {post : St2 → Prop} (hp : ∀ (m : Int32) (l1 l2 l3 l4 l5 l6 l7 l8 l9 : List Int32), bp m l1 l2 l3 l4 l5 l6 l7 l8 l9 = true → post (m, qz_t l1, qz_t l2, qz_t l3, qz_t l4, qz_t l5, qz_t l6, qz_t l7, qz_t l8, qz_t l9)) (x1 x2 : Int32) (m : Int32) (l1 l2 l3 l4 l5 l6 l7 l8 l9 : List Int32) : qz_unlink_48 bp x1 x2 m l1 l2 l3 l4 l5 l6 l7 l8 l9 = true → wX_unlink_48 post x1 x2 m (qz_t l1) (qz_t l2) (qz_t l3) (qz_t l4) (qz_t l5) (qz_t l6) (qz_t l7) (qz_t l8) (qz_t l9) :=
  qr_ck (qr_br (qk_unlink_74 hp x2 m l1 l2 l3 l4 l5 l6 l7 l8 l9) (qr_ck (qr_ck (qr_ck (qr_nu (qk_unlink_74 hp x2 _ _ _ _ _ _ _ _ _ _))))))
def qz_unlink (bp : qz_P) (m : Int32) (l1 l2 l3 l4 l5 l6 l7 l8 l9 : List Int32) (p0 : Int32) : Bool := qz_in p0 && (qz_in p0 && (if qz_t l7 p0.toNatClampNeg = 0 then (qz_in p0 && (qz_in (qz_t l4 p0.toNatClampNeg) && qz_unlink_48 bp p0 (qz_t l4 p0.toNatClampNeg) m l1 l2 l3 l4 (qz_set (qz_t l4 p0.toNatClampNeg).toNatClampNeg (qz_t l6 p0.toNatClampNeg) l5) l6 l7 l8 l9)) else (qz_in p0 && (qz_in p0 && (qz_in (qz_t l7 p0.toNatClampNeg) && qz_unlink_48 bp p0 (qz_t l4 p0.toNatClampNeg) m l1 l2 l3 l4 l5 (qz_set (qz_t l7 p0.toNatClampNeg).toNatClampNeg (qz_t l6 p0.toNatClampNeg) l6) l7 l8 l9)))))
theorem qk_unlink {bp : qz_P} {post : St2 → Prop} (hp : ∀ (m : Int32) (l1 l2 l3 l4 l5 l6 l7 l8 l9 : List Int32), bp m l1 l2 l3 l4 l5 l6 l7 l8 l9 = true → post (m, qz_t l1, qz_t l2, qz_t l3, qz_t l4, qz_t l5, qz_t l6, qz_t l7, qz_t l8, qz_t l9)) (m : Int32) (l1 l2 l3 l4 l5 l6 l7 l8 l9 : List Int32) (p0 : Int32) : qz_unlink bp m l1 l2 l3 l4 l5 l6 l7 l8 l9 p0 = true → wpX_unlink post (m, qz_t l1, qz_t l2, qz_t l3, qz_t l4, qz_t l5, qz_t l6, qz_t l7, qz_t l8, qz_t l9) p0 :=
  qr_ck (qr_nm (qr_ck (qr_br (qr_ck (qr_ck (qr_nu (qk_unlink_48 hp p0 _ _ _ _ _ _ _ _ _ _ _)))) (qr_ck (qr_ck (qr_ck (qr_nu (qk_unlink_48 hp p0 _ _ _ _ _ _ _ _ _ _ _))))))))

def qz_placeOf_7 (bp : qz_V) (m : Int32) (l1 l2 l3 l4 l5 l6 l7 l8 l9 : List Int32) : Nat → Int32 → Int32 → Int32 → Bool
  | 0 => fun _ _ _ => false
  | n + 1 => fun x2 x3 x4 => if 80 ≤ x4 then bp x2 else if x3 = 0 then bp x2 else (qz_in x3 && (if qz_t l7 x3.toNatClampNeg = 0 then (qz_in x3 && (if qz_t l4 x3.toNatClampNeg = 0 then qz_placeOf_7 bp m l1 l2 l3 l4 l5 l6 l7 l8 l9 n x2 (qz_t l4 x3.toNatClampNeg) (x4 + 1) else qz_placeOf_7 bp m l1 l2 l3 l4 l5 l6 l7 l8 l9 n (x2 + 1) (qz_t l4 x3.toNatClampNeg) (x4 + 1))) else (qz_in x3 && (qz_in (qz_t l7 x3.toNatClampNeg) && qz_placeOf_7 bp m l1 l2 l3 l4 l5 l6 l7 l8 l9 n (x2 + qz_t l8 (qz_t l7 x3.toNatClampNeg).toNatClampNeg) (qz_t l7 x3.toNatClampNeg) (x4 + 1)))))
theorem qk_placeOf_7 {bp : qz_V} {post : Int32 → Prop} (hp : ∀ r, bp r = true → post r) (m : Int32) (l1 l2 l3 l4 l5 l6 l7 l8 l9 : List Int32) : ∀ (n : Nat) (x2 x3 x4 : Int32), qz_placeOf_7 bp m l1 l2 l3 l4 l5 l6 l7 l8 l9 n x2 x3 x4 = true → wX_placeOf_7 post m (qz_t l1) (qz_t l2) (qz_t l3) (qz_t l4) (qz_t l5) (qz_t l6) (qz_t l7) (qz_t l8) (qz_t l9) n x2 x3 x4 := by
  intro n
  induction n with
  | zero => exact fun _ _ _ => qr_ff
  | succ n ih => exact fun x2 x3 x4 => qr_br (hp _) (qr_br (hp _) (qr_ck (qr_br (qr_ck (qr_nm (qr_br (qr_nm (ih _ _ _)) (qr_nm (qr_nm (ih _ _ _)))))) (qr_ck (qr_nm (qr_ck (qr_nm (qr_nm (ih _ _ _)))))))))
def qz_placeOf (bp : qz_V) (m : Int32) (l1 l2 l3 l4 l5 l6 l7 l8 l9 : List Int32) (p0 : Int32) : Bool := qz_placeOf_7 bp m l1 l2 l3 l4 l5 l6 l7 l8 l9 12 0 p0 0
theorem qk_placeOf {bp : qz_V} {post : Int32 → Prop} (hp : ∀ r, bp r = true → post r) (m : Int32) (l1 l2 l3 l4 l5 l6 l7 l8 l9 : List Int32) (p0 : Int32) : qz_placeOf bp m l1 l2 l3 l4 l5 l6 l7 l8 l9 p0 = true → wpX_placeOf post (m, qz_t l1, qz_t l2, qz_t l3, qz_t l4, qz_t l5, qz_t l6, qz_t l7, qz_t l8, qz_t l9) p0 :=
  qr_fu 12 (qk_placeOf_7 hp m l1 l2 l3 l4 l5 l6 l7 l8 l9 12 0 p0 0)

def qz_up (bp : qz_R) (m : Int32) (l1 l2 l3 l4 l5 l6 l7 l8 l9 : List Int32) (p0 : Int32) : Bool := qz_bad (fun a => if a = 0 then qz_nodeAt (fun x => (qz_in x && (if qz_t l7 x.toNatClampNeg = 0 then bp (-4) m l1 l2 l3 l4 l5 l6 l7 l8 l9 else qz_unlink (fun m' k1 k2 k3 k4 k5 k6 k7 k8 k9 => (qz_in (qz_t l7 x.toNatClampNeg) && (qz_in (qz_t l7 x.toNatClampNeg) && qz_link (fun m l1 l2 l3 l4 l5 l6 l7 l8 l9 => qz_placeOf (fun r => bp r m l1 l2 l3 l4 l5 l6 l7 l8 l9) m l1 l2 l3 l4 l5 l6 l7 l8 l9 x) m' k1 k2 k3 k4 k5 k6 k7 k8 k9 x (qz_t k4 (qz_t l7 x.toNatClampNeg).toNatClampNeg) (qz_t k7 (qz_t l7 x.toNatClampNeg).toNatClampNeg)))) m l1 l2 l3 l4 l5 l6 l7 l8 l9 x))) m l1 l2 l3 l4 l5 l6 l7 l8 l9 p0 else bp (-1) m l1 l2 l3 l4 l5 l6 l7 l8 l9) m l1 l2 l3 l4 l5 l6 l7 l8 l9 p0
theorem qk_up {bp : qz_R} {post : Int32 → St2 → Prop} (hp : ∀ (r : Int32) (m : Int32) (l1 l2 l3 l4 l5 l6 l7 l8 l9 : List Int32), bp r m l1 l2 l3 l4 l5 l6 l7 l8 l9 = true → post r (m, qz_t l1, qz_t l2, qz_t l3, qz_t l4, qz_t l5, qz_t l6, qz_t l7, qz_t l8, qz_t l9)) (m : Int32) (l1 l2 l3 l4 l5 l6 l7 l8 l9 : List Int32) (p0 : Int32) : qz_up bp m l1 l2 l3 l4 l5 l6 l7 l8 l9 p0 = true → wpX_up post (m, qz_t l1, qz_t l2, qz_t l3, qz_t l4, qz_t l5, qz_t l6, qz_t l7, qz_t l8, qz_t l9) p0 := by
  unfold qz_up wpX_up
  refine qk_bad (fun a => qr_br (qk_nodeAt (fun x => ?_) m l1 l2 l3 l4 l5 l6 l7 l8 l9 p0) (hp _ m l1 l2 l3 l4 l5 l6 l7 l8 l9)) m l1 l2 l3 l4 l5 l6 l7 l8 l9 p0
  refine qr_ck ?_
  refine qr_nm ?_
  refine qr_br (hp _ m l1 l2 l3 l4 l5 l6 l7 l8 l9) ?_
  refine qk_unlink (fun m' k1 k2 k3 k4 k5 k6 k7 k8 k9 => ?_) m l1 l2 l3 l4 l5 l6 l7 l8 l9 x
  refine qr_ck ?_
  refine qr_ck ?_
  exact qk_link (fun m l1 l2 l3 l4 l5 l6 l7 l8 l9 => qk_placeOf (fun r => hp r m l1 l2 l3 l4 l5 l6 l7 l8 l9) m l1 l2 l3 l4 l5 l6 l7 l8 l9 x) m' k1 k2 k3 k4 k5 k6 k7 k8 k9 x _ _

def qz_name (bp : qz_V) (m : Int32) (l1 l2 l3 l4 l5 l6 l7 l8 l9 : List Int32) (p0 : Int32) : Bool := qz_bad (fun a => if a = 0 then qz_nodeAt (fun x => (qz_in x && bp (qz_t l2 x.toNatClampNeg))) m l1 l2 l3 l4 l5 l6 l7 l8 l9 p0 else bp (-1)) m l1 l2 l3 l4 l5 l6 l7 l8 l9 p0
theorem qk_name {bp : qz_V} {post : Int32 → Prop} (hp : ∀ r, bp r = true → post r) (m : Int32) (l1 l2 l3 l4 l5 l6 l7 l8 l9 : List Int32) (p0 : Int32) : qz_name bp m l1 l2 l3 l4 l5 l6 l7 l8 l9 p0 = true → wpX_name post (m, qz_t l1, qz_t l2, qz_t l3, qz_t l4, qz_t l5, qz_t l6, qz_t l7, qz_t l8, qz_t l9) p0 := by
  unfold qz_name wpX_name
  exact qk_bad (fun a => qr_br (qk_nodeAt (fun x => qr_ck (hp _)) m l1 l2 l3 l4 l5 l6 l7 l8 l9 p0) (hp _)) m l1 l2 l3 l4 l5 l6 l7 l8 l9 p0

def qz_dissolve_98 (bp : qz_R) (x2 x3 : Int32) (m : Int32) (l1 l2 l3 l4 l5 l6 l7 l8 l9 : List Int32) : Bool := qz_in x2 && qz_unlink (bp x3) m (qz_set x2.toNatClampNeg 0 l1) l2 l3 l4 l5 l6 l7 l8 l9 x2
theorem qk_dissolve_98 {bp : qz_R} {post : Int32 → St2 → Prop} (hp : ∀ (r : Int32) (m : Int32) (l1 l2 l3 l4 l5 l6 l7 l8 l9 : List Int32), bp r m l1 l2 l3 l4 l5 l6 l7 l8 l9 = true → post r (m, qz_t l1, qz_t l2, qz_t l3, qz_t l4, qz_t l5, qz_t l6, qz_t l7, qz_t l8, qz_t l9)) (x2 x3 : Int32) (m : Int32) (l1 l2 l3 l4 l5 l6 l7 l8 l9 : List Int32) : qz_dissolve_98 bp x2 x3 m l1 l2 l3 l4 l5 l6 l7 l8 l9 = true → wX_dissolve_98 post x2 x3 m (qz_t l1) (qz_t l2) (qz_t l3) (qz_t l4) (qz_t l5) (qz_t l6) (qz_t l7) (qz_t l8) (qz_t l9) :=
  qr_ck (qr_nu (qk_unlink (fun m l1 l2 l3 l4 l5 l6 l7 l8 l9 => hp x3 m l1 l2 l3 l4 l5 l6 l7 l8 l9) _ _ _ _ _ _ _ _ _ _ x2))
def qz_dissolve_47 (bp : qz_R) (x2 x3 x4 : Int32) : Nat → Int32 → Int32 → Int32 → Int32 → List Int32 → List Int32 → List Int32 → List Int32 → List Int32 → List Int32 → List Int32 → List Int32 → List Int32 → Bool
  | 0 => fun _ _ _ _ _ _ _ _ _ _ _ _ _ => false
  | n + 1 => fun x5 x6 x7 m l1 l2 l3 l4 l5 l6 l7 l8 l9 => if 40 ≤ x7 then qz_dissolve_98 bp x2 x3 m l1 l2 l3 l4 l5 l6 l7 l8 l9 else if x6 = 0 then qz_dissolve_98 bp x2 x3 m l1 l2 l3 l4 l5 l6 l7 l8 l9 else (qz_in x6 && qz_unlink (fun m' k1 k2 k3 k4 k5 k6 k7 k8 k9 => qz_link (fun m'' i1 i2 i3 i4 i5 i6 i7 i8 i9 => qz_dissolve_47 bp x2 x3 x4 n x6 (qz_t l6 x6.toNatClampNeg) (x7 + 1) m'' i1 i2 i3 i4 i5 i6 i7 i8 i9) m' k1 k2 k3 k4 k5 k6 k7 k8 k9 x6 x4 x5) m l1 l2 l3 l4 l5 l6 l7 l8 l9 x6)
theorem qk_dissolve_47 {bp : qz_R} {post : Int32 → St2 → Prop} (hp : ∀ (r : Int32) (m : Int32) (l1 l2 l3 l4 l5 l6 l7 l8 l9 : List Int32), bp r m l1 l2 l3 l4 l5 l6 l7 l8 l9 = true → post r (m, qz_t l1, qz_t l2, qz_t l3, qz_t l4, qz_t l5, qz_t l6, qz_t l7, qz_t l8, qz_t l9)) (x2 x3 x4 : Int32) : ∀ (n : Nat) (x5 x6 x7 : Int32) (m : Int32) (l1 l2 l3 l4 l5 l6 l7 l8 l9 : List Int32), qz_dissolve_47 bp x2 x3 x4 n x5 x6 x7 m l1 l2 l3 l4 l5 l6 l7 l8 l9 = true → wX_dissolve_47 post x2 x3 x4 n x5 x6 x7 m (qz_t l1) (qz_t l2) (qz_t l3) (qz_t l4) (qz_t l5) (qz_t l6) (qz_t l7) (qz_t l8) (qz_t l9) := by
  intro n
  induction n with
  | zero => exact fun _ _ _ _ _ _ _ _ _ _ _ _ _ => qr_ff
  | succ n ih =>
    intro x5 x6 x7 m l1 l2 l3 l4 l5 l6 l7 l8 l9
    refine qr_br (qk_dissolve_98 hp x2 x3 m l1 l2 l3 l4 l5 l6 l7 l8 l9) (qr_br (qk_dissolve_98 hp x2 x3 m l1 l2 l3 l4 l5 l6 l7 l8 l9) ?_)
    refine qr_ck ?_
    refine qr_nm ?_
    refine qk_unlink (fun m' k1 k2 k3 k4 k5 k6 k7 k8 k9 => ?_) m l1 l2 l3 l4 l5 l6 l7 l8 l9 x6
    refine qk_link (fun m'' i1 i2 i3 i4 i5 i6 i7 i8 i9 => ?_) m' k1 k2 k3 k4 k5 k6 k7 k8 k9 x6 x4 x5
    refine qr_nm ?_
    exact ih _ _ _ m'' i1 i2 i3 i4 i5 i6 i7 i8 i9
def qz_dissolve (bp : qz_R) (m : Int32) (l1 l2 l3 l4 l5 l6 l7 l8 l9 : List Int32) (p0 : Int32) : Bool := qz_bad (fun a => if a = 0 then qz_nodeAt (fun x => (qz_in x && (qz_in x && (qz_in x && qz_dissolve_47 bp x (qz_t l8 x.toNatClampNeg - 1) (qz_t l4 x.toNatClampNeg) 8 x (qz_t l5 x.toNatClampNeg) 0 m l1 l2 l3 l4 l5 l6 l7 l8 l9)))) m l1 l2 l3 l4 l5 l6 l7 l8 l9 p0 else bp (-1) m l1 l2 l3 l4 l5 l6 l7 l8 l9) m l1 l2 l3 l4 l5 l6 l7 l8 l9 p0
theorem qk_dissolve {bp : qz_R} {post : Int32 → St2 → Prop} (hp : ∀ (r : Int32) (m : Int32) (l1 l2 l3 l4 l5 l6 l7 l8 l9 : List Int32), bp r m l1 l2 l3 l4 l5 l6 l7 l8 l9 = true → post r (m, qz_t l1, qz_t l2, qz_t l3, qz_t l4, qz_t l5, qz_t l6, qz_t l7, qz_t l8, qz_t l9)) (m : Int32) (l1 l2 l3 l4 l5 l6 l7 l8 l9 : List Int32) (p0 : Int32) : qz_dissolve bp m l1 l2 l3 l4 l5 l6 l7 l8 l9 p0 = true → wpX_dissolve post (m, qz_t l1, qz_t l2, qz_t l3, qz_t l4, qz_t l5, qz_t l6, qz_t l7, qz_t l8, qz_t l9) p0 := by
  unfold qz_dissolve wpX_dissolve
  refine qk_bad (fun a => qr_br (qk_nodeAt (fun x => ?_) m l1 l2 l3 l4 l5 l6 l7 l8 l9 p0) (hp _ m l1 l2 l3 l4 l5 l6 l7 l8 l9)) m l1 l2 l3 l4 l5 l6 l7 l8 l9 p0
  refine qr_ck ?_
  refine qr_nm ?_
  refine qr_ck ?_
  refine qr_nm ?_
  refine qr_ck ?_
  refine qr_nm ?_
  refine qr_fu 8 ?_
  exact qk_dissolve_47 hp x _ _ 8 _ _ _ m l1 l2 l3 l4 l5 l6 l7 l8 l9

def qz_level (bp : qz_V) (m : Int32) (l1 l2 l3 l4 l5 l6 l7 l8 l9 : List Int32) (p0 : Int32) : Bool := qz_bad (fun a => if a = 0 then qz_nodeAt (fun x => qz_levelOf bp m l1 l2 l3 l4 l5 l6 l7 l8 l9 x) m l1 l2 l3 l4 l5 l6 l7 l8 l9 p0 else bp (-1)) m l1 l2 l3 l4 l5 l6 l7 l8 l9 p0
theorem qk_level {bp : qz_V} {post : Int32 → Prop} (hp : ∀ r, bp r = true → post r) (m : Int32) (l1 l2 l3 l4 l5 l6 l7 l8 l9 : List Int32) (p0 : Int32) : qz_level bp m l1 l2 l3 l4 l5 l6 l7 l8 l9 p0 = true → wpX_level post (m, qz_t l1, qz_t l2, qz_t l3, qz_t l4, qz_t l5, qz_t l6, qz_t l7, qz_t l8, qz_t l9) p0 := by
  unfold qz_level wpX_level
  exact qk_bad (fun a => qr_br (qk_nodeAt (fun x => qk_levelOf hp m l1 l2 l3 l4 l5 l6 l7 l8 l9 x) m l1 l2 l3 l4 l5 l6 l7 l8 l9 p0) (hp _)) m l1 l2 l3 l4 l5 l6 l7 l8 l9 p0

def qz_fold_46 (bp : qz_R) (x3 x4 z0 z1 : Int32) (m : Int32) (l1 l2 l3 l4 l5 l6 l7 l8 l9 : List Int32) : Bool := qz_in z1 && qz_pullUp (bp x4) m l1 l2 (qz_set z1.toNatClampNeg (vp_nar .boolean z0) l3) l4 l5 l6 l7 l8 l9 x3
theorem qk_fold_46 {bp : qz_R} {post : Int32 → St2 → Prop} (hp : ∀ (r : Int32) (m : Int32) (l1 l2 l3 l4 l5 l6 l7 l8 l9 : List Int32), bp r m l1 l2 l3 l4 l5 l6 l7 l8 l9 = true → post r (m, qz_t l1, qz_t l2, qz_t l3, qz_t l4, qz_t l5, qz_t l6, qz_t l7, qz_t l8, qz_t l9)) (x3 x4 z0 z1 : Int32) (m : Int32) (l1 l2 l3 l4 l5 l6 l7 l8 l9 : List Int32) : qz_fold_46 bp x3 x4 z0 z1 m l1 l2 l3 l4 l5 l6 l7 l8 l9 = true → wX_fold_46 post x3 x4 z0 z1 m (qz_t l1) (qz_t l2) (qz_t l3) (qz_t l4) (qz_t l5) (qz_t l6) (qz_t l7) (qz_t l8) (qz_t l9) :=
  qr_ck (qr_nu (qk_pullUp (fun m l1 l2 l3 l4 l5 l6 l7 l8 l9 => hp x4 m l1 l2 l3 l4 l5 l6 l7 l8 l9) _ _ _ _ _ _ _ _ _ _ x3))
/-- z stands for 'p1 != 0' -/
theorem qk_fold_30 {bp : qz_R} {post : Int32 → St2 → Prop} (hp : ∀ (r : Int32) (m : Int32) (l1 l2 l3 l4 l5 l6 l7 l8 l9 : List Int32), bp r m l1 l2 l3 l4 l5 l6 l7 l8 l9 = true → post r (m, qz_t l1, qz_t l2, qz_t l3, qz_t l4, qz_t l5, qz_t l6, qz_t l7, qz_t l8, qz_t l9)) (x2 z : Int32) (h0 : x2 = 0 → z = 0) (h1 : ¬ x2 = 0 → z = 1) (x3 z0 : Int32) (m : Int32) (l1 l2 l3 l4 l5 l6 l7 l8 l9 : List Int32) : qz_fold_46 bp x3 z0 z x3 m l1 l2 l3 l4 l5 l6 l7 l8 l9 = true → wX_fold_30 post x2 x3 z0 m (qz_t l1) (qz_t l2) (qz_t l3) (qz_t l4) (qz_t l5) (qz_t l6) (qz_t l7) (qz_t l8) (qz_t l9) := by
  intro h
  refine ⟨fun hc => ?_, fun hc => ?_⟩
  · rw [h0 hc] at h
    exact qk_fold_46 hp x3 z0 0 x3 m l1 l2 l3 l4 l5 l6 l7 l8 l9 h
  · rw [h1 hc] at h
    exact qk_fold_46 hp x3 z0 1 x3 m l1 l2 l3 l4 l5 l6 l7 l8 l9 h
def qz_fold (bp : qz_R) (m : Int32) (l1 l2 l3 l4 l5 l6 l7 l8 l9 : List Int32) (p0 z : Int32) : Bool := qz_bad (fun a => if a = 0 then qz_nodeAt (fun x => (qz_in x && (if qz_t l3 x.toNatClampNeg = 0 then qz_fold_46 bp x 0 z x m l1 l2 l3 l4 l5 l6 l7 l8 l9 else qz_fold_46 bp x 1 z x m l1 l2 l3 l4 l5 l6 l7 l8 l9))) m l1 l2 l3 l4 l5 l6 l7 l8 l9 p0 else bp (-1) m l1 l2 l3 l4 l5 l6 l7 l8 l9) m l1 l2 l3 l4 l5 l6 l7 l8 l9 p0
theorem qk_fold {bp : qz_R} {post : Int32 → St2 → Prop} (hp : ∀ (r : Int32) (m : Int32) (l1 l2 l3 l4 l5 l6 l7 l8 l9 : List Int32), bp r m l1 l2 l3 l4 l5 l6 l7 l8 l9 = true → post r (m, qz_t l1, qz_t l2, qz_t l3, qz_t l4, qz_t l5, qz_t l6, qz_t l7, qz_t l8, qz_t l9)) (m : Int32) (l1 l2 l3 l4 l5 l6 l7 l8 l9 : List Int32) (p0 p1 z : Int32) (h0 : p1 = 0 → z = 0) (h1 : ¬ p1 = 0 → z = 1) : qz_fold bp m l1 l2 l3 l4 l5 l6 l7 l8 l9 p0 z = true → wpX_fold post (m, qz_t l1, qz_t l2, qz_t l3, qz_t l4, qz_t l5, qz_t l6, qz_t l7, qz_t l8, qz_t l9) p0 p1 := by
  unfold qz_fold wpX_fold
  exact qk_bad (fun a => qr_br (qk_nodeAt (fun x => qr_ck (qr_br (qk_fold_30 hp p1 z h0 h1 x 0 m l1 l2 l3 l4 l5 l6 l7 l8 l9) (qk_fold_30 hp p1 z h0 h1 x 1 m l1 l2 l3 l4 l5 l6 l7 l8 l9))) m l1 l2 l3 l4 l5 l6 l7 l8 l9 p0) (hp _ m l1 l2 l3 l4 l5 l6 l7 l8 l9)) m l1 l2 l3 l4 l5 l6 l7 l8 l9 p0
end
section
/-! the checks, as one closed computation: all that the law asks of the states it can reach -/
def qz_fin (un sz lv r0 r1 r : Int32) (m : Int32) (l1 l2 l3 l4 l5 l6 l7 l8 l9 : List Int32) : Bool := decide (r = un) && (decide (qz_t l8 0 = sz) && (qz_level (fun q => decide (q = lv)) m l1 l2 l3 l4 l5 l6 l7 l8 l9 1 && (qz_fold (fun o => fun m l1 l2 l3 l4 l5 l6 l7 l8 l9 => (decide (o = 0) && decide (qz_t l9 0 = r0))) m l1 l2 l3 l4 l5 l6 l7 l8 l9 0 0 && qz_fold (fun o => fun m l1 l2 l3 l4 l5 l6 l7 l8 l9 => (decide (o = 0) && decide (qz_t l9 0 = r1))) m l1 l2 l3 l4 l5 l6 l7 l8 l9 0 1)))
def qz_aft (up nm r : Int32) (m : Int32) (l1 l2 l3 l4 l5 l6 l7 l8 l9 : List Int32) : Bool := decide (r = up) && (decide (qz_t l8 0 = 3) && (qz_name (fun q => decide (q = nm)) m l1 l2 l3 l4 l5 l6 l7 l8 l9 1 && (qz_dissolve (qz_fin 2 2 0 2 2) m l1 l2 l3 l4 l5 l6 l7 l8 l9 0 && (qz_dissolve (qz_fin 0 2 1 2 1) m l1 l2 l3 l4 l5 l6 l7 l8 l9 1 && (qz_dissolve (qz_fin 0 2 1 2 1) m l1 l2 l3 l4 l5 l6 l7 l8 l9 2 && qz_fin (-1) 3 1 3 1 (-1) m l1 l2 l3 l4 l5 l6 l7 l8 l9)))))
def qz_mid (m : Int32) (l1 l2 l3 l4 l5 l6 l7 l8 l9 : List Int32) : Bool := decide (qz_t l8 0 = 3) && (qz_up (qz_aft (-4) 1) m l1 l2 l3 l4 l5 l6 l7 l8 l9 0 && (qz_up (qz_aft (-4) 1) m l1 l2 l3 l4 l5 l6 l7 l8 l9 1 && (qz_up (qz_aft 1 2) m l1 l2 l3 l4 l5 l6 l7 l8 l9 2 && qz_aft (-1) 1 (-1) m l1 l2 l3 l4 l5 l6 l7 l8 l9)))
def qz_start : Bool := qz_add (fun _ => fun m l1 l2 l3 l4 l5 l6 l7 l8 l9 => qz_addUnder (fun _ => fun m l1 l2 l3 l4 l5 l6 l7 l8 l9 => qz_addAfter (fun _ => fun m l1 l2 l3 l4 l5 l6 l7 l8 l9 => qz_mid m l1 l2 l3 l4 l5 l6 l7 l8 l9) m l1 l2 l3 l4 l5 l6 l7 l8 l9 1) m l1 l2 l3 l4 l5 l6 l7 l8 l9 0) 0 [] [] [] [] [] [] [] [] [] 0
theorem qc_start : qz_start = true := by decide +kernel

/-! the five kinds of place -/
theorem qc_five (i : Int32) : (i < 0 ∧ ¬ 2 < i ∧ ¬ i = 2 ∧ ¬ i = 0) ∨ i = 0 ∨ i = 1 ∨ i = 2 ∨ (¬ i < 0 ∧ 2 < i ∧ ¬ i = 2 ∧ ¬ i = 0) := by
  have e0 : (0 : Int32).toInt = 0 := by decide
  have e1 : (1 : Int32).toInt = 1 := by decide
  have e2 : (2 : Int32).toInt = 2 := by decide
  simp only [Int32.lt_iff_toInt_lt, ← Int32.toInt_inj, e0, e1, e2]
  omega
theorem qc_bad {post : Int32 → Prop} (m : Int32) (l1 l2 l3 l4 l5 l6 l7 l8 l9 : List Int32) (i : Int32) (hs : qz_t l8 0 = 3) (hi : i < 0 ∨ 2 < i) (hp : post 1) : wpX_bad post (m, qz_t l1, qz_t l2, qz_t l3, qz_t l4, qz_t l5, qz_t l6, qz_t l7, qz_t l8, qz_t l9) i := by
  unfold wpX_bad
  by_cases h : i < 0
  · exact br_t h hp
  · refine br_f h (br_f ?_ hp)
    rw [hs]
    have e3 : (3 : Int32).toInt = 3 := by decide
    have e0 : (0 : Int32).toInt = 0 := by decide
    have e2 : (2 : Int32).toInt = 2 := by decide
    simp only [Int32.lt_iff_toInt_lt, e0, e2, e3] at *
    omega
/-- the answers, by the places i and j -/
def qz_upv (i : Int32) : Int32 := if i < 0 then -1 else if 2 < i then -1 else if i = 2 then 1 else -4
def qz_nmv (i : Int32) : Int32 := if i = 2 then 2 else 1
def qz_unv (j : Int32) : Int32 := if j < 0 then -1 else if 2 < j then -1 else if j = 0 then 2 else 0
def qz_szv (j : Int32) : Int32 := if j < 0 then 3 else if 2 < j then 3 else 2
def qz_lvv (j : Int32) : Int32 := if j = 0 then 0 else 1
def qz_r1v (j : Int32) : Int32 := if j = 0 then 2 else 1

theorem qc_up {post : Int32 → St2 → Prop} (m : Int32) (l1 l2 l3 l4 l5 l6 l7 l8 l9 : List Int32) (i : Int32) (h : qz_mid m l1 l2 l3 l4 l5 l6 l7 l8 l9 = true) (hp : ∀ (r : Int32) (m : Int32) (l1 l2 l3 l4 l5 l6 l7 l8 l9 : List Int32), qz_aft (qz_upv i) (qz_nmv i) r m l1 l2 l3 l4 l5 l6 l7 l8 l9 = true → post r (m, qz_t l1, qz_t l2, qz_t l3, qz_t l4, qz_t l5, qz_t l6, qz_t l7, qz_t l8, qz_t l9)) : wpX_up post (m, qz_t l1, qz_t l2, qz_t l3, qz_t l4, qz_t l5, qz_t l6, qz_t l7, qz_t l8, qz_t l9) i := by
  unfold qz_mid at h
  simp only [Bool.and_eq_true] at h
  obtain ⟨hs, h0, h1, h2, hb⟩ := h
  have hs' := of_decide_eq_true hs
  rcases qc_five i with hi | hi | hi | hi | hi
  · have e1 : qz_upv i = -1 := by unfold qz_upv; rw [if_pos hi.1]
    have e2 : qz_nmv i = 1 := by unfold qz_nmv; rw [if_neg hi.2.2.1]
    rw [e1, e2] at hp
    unfold wpX_up
    exact qc_bad m l1 l2 l3 l4 l5 l6 l7 l8 l9 i hs' (Or.inl hi.1) (br_f (by decide) (hp _ m l1 l2 l3 l4 l5 l6 l7 l8 l9 hb))
  · subst hi
    exact qk_up hp m l1 l2 l3 l4 l5 l6 l7 l8 l9 0 h0
  · subst hi
    exact qk_up hp m l1 l2 l3 l4 l5 l6 l7 l8 l9 1 h1
  · subst hi
    exact qk_up hp m l1 l2 l3 l4 l5 l6 l7 l8 l9 2 h2
  · have e1 : qz_upv i = -1 := by unfold qz_upv; rw [if_neg hi.1, if_pos hi.2.1]
    have e2 : qz_nmv i = 1 := by unfold qz_nmv; rw [if_neg hi.2.2.1]
    rw [e1, e2] at hp
    unfold wpX_up
    exact qc_bad m l1 l2 l3 l4 l5 l6 l7 l8 l9 i hs' (Or.inr hi.2.1) (br_f (by decide) (hp _ m l1 l2 l3 l4 l5 l6 l7 l8 l9 hb))

theorem qc_dissolve {post : Int32 → St2 → Prop} (m : Int32) (l1 l2 l3 l4 l5 l6 l7 l8 l9 : List Int32) (j : Int32) (hs : qz_t l8 0 = 3) (h0 : qz_dissolve (qz_fin 2 2 0 2 2) m l1 l2 l3 l4 l5 l6 l7 l8 l9 0 = true) (h1 : qz_dissolve (qz_fin 0 2 1 2 1) m l1 l2 l3 l4 l5 l6 l7 l8 l9 1 = true) (h2 : qz_dissolve (qz_fin 0 2 1 2 1) m l1 l2 l3 l4 l5 l6 l7 l8 l9 2 = true) (hb : qz_fin (-1) 3 1 3 1 (-1) m l1 l2 l3 l4 l5 l6 l7 l8 l9 = true)
    (hp : ∀ (r : Int32) (m : Int32) (l1 l2 l3 l4 l5 l6 l7 l8 l9 : List Int32), qz_fin (qz_unv j) (qz_szv j) (qz_lvv j) (qz_szv j) (qz_r1v j) r m l1 l2 l3 l4 l5 l6 l7 l8 l9 = true → post r (m, qz_t l1, qz_t l2, qz_t l3, qz_t l4, qz_t l5, qz_t l6, qz_t l7, qz_t l8, qz_t l9)) : wpX_dissolve post (m, qz_t l1, qz_t l2, qz_t l3, qz_t l4, qz_t l5, qz_t l6, qz_t l7, qz_t l8, qz_t l9) j := by
  rcases qc_five j with hi | hi | hi | hi | hi
  · have e1 : qz_unv j = -1 := by unfold qz_unv; rw [if_pos hi.1]
    have e2 : qz_szv j = 3 := by unfold qz_szv; rw [if_pos hi.1]
    have e3 : qz_lvv j = 1 := by unfold qz_lvv; rw [if_neg hi.2.2.2]
    have e4 : qz_r1v j = 1 := by unfold qz_r1v; rw [if_neg hi.2.2.2]
    rw [e1, e2, e3, e4] at hp
    unfold wpX_dissolve
    exact qc_bad m l1 l2 l3 l4 l5 l6 l7 l8 l9 j hs (Or.inl hi.1) (br_f (by decide) (hp _ m l1 l2 l3 l4 l5 l6 l7 l8 l9 hb))
  · subst hi
    exact qk_dissolve hp m l1 l2 l3 l4 l5 l6 l7 l8 l9 0 h0
  · subst hi
    exact qk_dissolve hp m l1 l2 l3 l4 l5 l6 l7 l8 l9 1 h1
  · subst hi
    exact qk_dissolve hp m l1 l2 l3 l4 l5 l6 l7 l8 l9 2 h2
  · have e1 : qz_unv j = -1 := by unfold qz_unv; rw [if_neg hi.1, if_pos hi.2.1]
    have e2 : qz_szv j = 3 := by unfold qz_szv; rw [if_neg hi.1, if_pos hi.2.1]
    have e3 : qz_lvv j = 1 := by unfold qz_lvv; rw [if_neg hi.2.2.2]
    have e4 : qz_r1v j = 1 := by unfold qz_r1v; rw [if_neg hi.2.2.2]
    rw [e1, e2, e3, e4] at hp
    unfold wpX_dissolve
    exact qc_bad m l1 l2 l3 l4 l5 l6 l7 l8 l9 j hs (Or.inr hi.2.1) (br_f (by decide) (hp _ m l1 l2 l3 l4 l5 l6 l7 l8 l9 hb))

/-- the fold, by the flag: the rows behind it -/
theorem qc_fold {post : Int32 → St2 → Prop} (m : Int32) (l1 l2 l3 l4 l5 l6 l7 l8 l9 : List Int32) (on r0 r1 : Int32) (h0 : qz_fold (fun o => fun m l1 l2 l3 l4 l5 l6 l7 l8 l9 => (decide (o = 0) && decide (qz_t l9 0 = r0))) m l1 l2 l3 l4 l5 l6 l7 l8 l9 0 0 = true) (h1 : qz_fold (fun o => fun m l1 l2 l3 l4 l5 l6 l7 l8 l9 => (decide (o = 0) && decide (qz_t l9 0 = r1))) m l1 l2 l3 l4 l5 l6 l7 l8 l9 0 1 = true)
    (hp : ∀ (m : Int32) (l1 l2 l3 l4 l5 l6 l7 l8 l9 : List Int32), qz_t l9 0 = (if on = 0 then r0 else r1) → post 0 (m, qz_t l1, qz_t l2, qz_t l3, qz_t l4, qz_t l5, qz_t l6, qz_t l7, qz_t l8, qz_t l9)) : wpX_fold post (m, qz_t l1, qz_t l2, qz_t l3, qz_t l4, qz_t l5, qz_t l6, qz_t l7, qz_t l8, qz_t l9) 0 on := by
  by_cases ho : on = 0
  · refine qk_fold (fun o m l1 l2 l3 l4 l5 l6 l7 l8 l9 hb => ?_) m l1 l2 l3 l4 l5 l6 l7 l8 l9 0 on 0 (fun _ => rfl) (fun z => absurd ho z) h0
    rw [Bool.and_eq_true] at hb
    have e := of_decide_eq_true hb.1
    subst e
    exact hp m l1 l2 l3 l4 l5 l6 l7 l8 l9 (by rw [if_pos ho]; exact of_decide_eq_true hb.2)
  · refine qk_fold (fun o m l1 l2 l3 l4 l5 l6 l7 l8 l9 hb => ?_) m l1 l2 l3 l4 l5 l6 l7 l8 l9 0 on 1 (fun z => absurd z ho) (fun _ => rfl) h1
    rw [Bool.and_eq_true] at hb
    have e := of_decide_eq_true hb.1
    subst e
    exact hp m l1 l2 l3 l4 l5 l6 l7 l8 l9 (by rw [if_neg ho]; exact of_decide_eq_true hb.2)

/-- the law's last expression -/
theorem qc_tail (i j on up nm un sz lv rw' : Int32) (mc ms kc ks : Nat) (hup : up = qz_upv i) (hnm : nm = qz_nmv i) (hun : un = qz_unv j) (hsz : sz = qz_szv j) (hlv : lv = qz_lvv j) (hrw : rw' = if on = 0 then qz_szv j else qz_r1v j) :
    (i < 0 → wL_lawOf_87 (fun r _ => r = 1) mc ms i j on up nm un sz lv 0 rw' kc ks) ∧ (¬ i < 0 → (2 < i → wL_lawOf_87 (fun r _ => r = 1) mc ms i j on up nm un sz lv 0 rw' kc ks) ∧ (¬ 2 < i → wL_lawOf_88 (fun r _ => r = 1) mc ms i j on up nm un sz lv 0 rw' 1 kc ks)) := by
  subst hup hnm hun hsz hlv hrw
  simp only [wL_lawOf_87, wL_lawOf_88, wL_lawOf_103, wL_lawOf_104, wL_lawOf_116, wL_lawOf_127, wL_lawOf_151, wL_lawOf_166, wL_lawOf_190, wL_lawOf_212, wL_lawOf_235, wL_lawOf_237, qz_upv, qz_nmv, qz_unv, qz_szv, qz_lvv, qz_r1v]
  rcases qc_five i with hi | hi | hi | hi | hi <;> rcases qc_five j with hj | hj | hj | hj | hj <;> by_cases ho : on = 0 <;> (try subst hi) <;> (try subst hj) <;> simp [*]

theorem qc_cell {post : Int32 → Prop} (L : Nat) (hL : L ≤ 3) (xs : Nat → Int32) (p : Int32) (hq : p = 0 ∨ p = 1 ∨ p = 2) (hp : ∀ r, post r) : wpL_cellAt post L xs () p := by
  unfold wpL_cellAt
  refine ⟨fun _ => hp _, fun h => ⟨?_, hp _⟩⟩
  have hl : L = 0 ∨ L = 1 ∨ L = 2 ∨ L = 3 := by omega
  refine vp_in_iff.mpr ?_
  revert h
  rcases hl with e | e | e | e <;> subst e <;> rcases hq with e | e | e <;> subst e <;> decide

theorem qc_law (i j on : Int32) : wpL_lawOf (fun r _ => r = 1) 184 2944 () i j on := by
  unfold wpL_lawOf
  refine ⟨by decide, by decide, 9, 369, by decide, by decide, ?_⟩
  unfold wpX_init
  refine ⟨by decide, by decide, by decide, by decide, by decide, by decide, by decide, by decide, by decide, by decide, by decide, by decide, by decide, by decide, by decide, by decide, by decide, by decide, ?_⟩
  have e0 : (fun _ => 0 : Nat → Int32) = qz_t [] := rfl
  rw [e0]
  refine qk_add (fun _ m l1 l2 l3 l4 l5 l6 l7 l8 l9 => qk_addUnder (fun _ m l1 l2 l3 l4 l5 l6 l7 l8 l9 => qk_addAfter (fun _ m l1 l2 l3 l4 l5 l6 l7 l8 l9 => ?_) m l1 l2 l3 l4 l5 l6 l7 l8 l9 1) m l1 l2 l3 l4 l5 l6 l7 l8 l9 0) 0 [] [] [] [] [] [] [] [] [] 0 qc_start
  intro hm
  refine qc_up m l1 l2 l3 l4 l5 l6 l7 l8 l9 i hm ?_
  clear hm m l1 l2 l3 l4 l5 l6 l7 l8 l9
  intro up m l1 l2 l3 l4 l5 l6 l7 l8 l9 hm
  unfold qz_aft at hm
  simp only [Bool.and_eq_true] at hm
  obtain ⟨hu, hs, hn, h0, h1, h2, hb⟩ := hm
  refine qk_name (fun nm hnm => ?_) m l1 l2 l3 l4 l5 l6 l7 l8 l9 1 hn
  refine qc_dissolve m l1 l2 l3 l4 l5 l6 l7 l8 l9 j (of_decide_eq_true hs) h0 h1 h2 hb ?_
  clear hs hn h0 h1 h2 hb m l1 l2 l3 l4 l5 l6 l7 l8 l9
  intro un m l1 l2 l3 l4 l5 l6 l7 l8 l9 hm
  unfold qz_fin at hm
  simp only [Bool.and_eq_true] at hm
  obtain ⟨hun, hsz, hlv, hf0, hf1⟩ := hm
  refine qk_level (fun lv hl => ?_) m l1 l2 l3 l4 l5 l6 l7 l8 l9 1 hlv
  refine qc_fold m l1 l2 l3 l4 l5 l6 l7 l8 l9 on _ _ hf0 hf1 ?_
  intro m' k1 k2 k3 k4 k5 k6 k7 k8 k9 hr
  exact qc_tail i j on _ _ _ _ _ _ _ _ _ _ (of_decide_eq_true hu) (of_decide_eq_true hnm) (of_decide_eq_true hun) (of_decide_eq_true hsz) (of_decide_eq_true hl) hr

theorem i_vc (xs : Nat → Int32) (L : Nat) (hL : L ≤ 3) : wpL_law (fun r => r = 1) L xs :=
  qc_cell L hL xs 0 (by decide) (fun i => qc_cell L hL xs 1 (by decide) (fun j => qc_cell L hL xs 2 (by decide) (fun on => ⟨184, 2944, by decide, by decide, qc_law i j on⟩)))
end

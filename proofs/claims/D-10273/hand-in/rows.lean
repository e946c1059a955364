section
/-! ===== pure: runs and letters as lists ===== -/
def sx_tot : List (Nat × Int32) → Nat
  | [] => 0
  | x :: R => x.1 + sx_tot R
def sx_ex : List (Nat × Int32) → List Int32
  | [] => []
  | x :: R => List.replicate x.1 x.2 ++ sx_ex R
def sx_pos : List (Nat × Int32) → Prop
  | [] => True
  | x :: R => 0 < x.1 ∧ sx_pos R
def sx_hd (s : Int32) : List (Nat × Int32) → Prop
  | [] => True
  | x :: _ => s ≠ x.2
def sx_can : List (Nat × Int32) → Prop
  | [] => True
  | x :: R => 0 < x.1 ∧ sx_hd x.2 R ∧ sx_can R
/-- the arrays a (sizes) and b (looks) hold the runs R from place o on -/
def sx_rn (a b : Nat → Int32) : Nat → List (Nat × Int32) → Prop
  | _, [] => True
  | o, x :: R => a o = nI x.1 ∧ b o = x.2 ∧ sx_rn a b (o + 1) R
/-- the array a holds l from place o on -/
def sx_sg (a : Nat → Int32) : Nat → List Int32 → Prop
  | _, [] => True
  | o, x :: l => a o = x ∧ sx_sg a (o + 1) l
/-- the buffer a with its gap at g holds the letters L -/
def sx_L (a : Nat → Int32) (g : Nat) (L : List Int32) : Prop :=
  ∃ P Q, L = P ++ Q ∧ P.length = g ∧ sx_sg a 0 P ∧ sx_sg a (64 - Q.length) Q
/-- the arrays a, b hold c runs, and they are the styles S -/
def sx_S (a b : Nat → Int32) (c : Nat) (S : List Int32) : Prop :=
  ∃ R, sx_rn a b 0 R ∧ sx_can R ∧ sx_ex R = S ∧ R.length = c
theorem sx_tot_app (A B : List (Nat × Int32)) : sx_tot (A ++ B) = sx_tot A + sx_tot B := by
  induction A with
  | nil => simp [sx_tot]
  | cons x A ih => simp [sx_tot, ih, Nat.add_assoc]
theorem sx_ex_app (A B : List (Nat × Int32)) : sx_ex (A ++ B) = sx_ex A ++ sx_ex B := by
  induction A with
  | nil => simp [sx_ex]
  | cons x A ih => simp [sx_ex, ih, List.append_assoc]
theorem sx_ex_len (R : List (Nat × Int32)) : (sx_ex R).length = sx_tot R := by
  induction R with
  | nil => simp [sx_ex, sx_tot]
  | cons x R ih => simp [sx_ex, sx_tot, ih]
theorem sx_pos_app (A B : List (Nat × Int32)) : sx_pos (A ++ B) ↔ sx_pos A ∧ sx_pos B := by
  induction A with
  | nil => simp [sx_pos]
  | cons x A ih => simp [sx_pos, ih, and_assoc]
theorem sx_pos_len {R : List (Nat × Int32)} (h : sx_pos R) : R.length ≤ sx_tot R := by
  induction R with
  | nil => simp
  | cons x R ih =>
    have h1 := h.1
    have h2 := ih h.2
    simp only [List.length_cons, sx_tot]
    omega
theorem sx_can_pos {R : List (Nat × Int32)} (h : sx_can R) : sx_pos R := by
  induction R with
  | nil => trivial
  | cons x R ih => exact ⟨h.1, ih h.2.2⟩
theorem sx_pos0 {R : List (Nat × Int32)} (h : sx_pos R) (h0 : sx_tot R = 0) : R = [] := by
  have := sx_pos_len h
  exact List.length_eq_zero_iff.mp (by omega)
theorem sx_rn_app {a b : Nat → Int32} (A B : List (Nat × Int32)) : ∀ o, sx_rn a b o (A ++ B) ↔ sx_rn a b o A ∧ sx_rn a b (o + A.length) B := by
  induction A with
  | nil => intro o; simp [sx_rn]
  | cons x A ih =>
    intro o
    have e : o + (x :: A).length = o + 1 + A.length := by simp only [List.length_cons]; omega
    rw [e, List.cons_append]
    simp only [sx_rn]
    rw [ih (o + 1)]
    simp only [and_assoc]
theorem sx_rn_sh {a b a' b' : Nat → Int32} (R : List (Nat × Int32)) : ∀ o o', (∀ j, j < R.length → a' (o' + j) = a (o + j) ∧ b' (o' + j) = b (o + j)) → sx_rn a b o R → sx_rn a' b' o' R := by
  induction R with
  | nil => intros; trivial
  | cons x R ih =>
    intro o o' h hr
    have h0 := h 0 (by simp)
    refine ⟨h0.1.trans hr.1, h0.2.trans hr.2.1, ih (o + 1) (o' + 1) (fun j hj => ?_) hr.2.2⟩
    have := h (j + 1) (by simp only [List.length_cons]; omega)
    rw [show o' + 1 + j = o' + (j + 1) by omega, show o + 1 + j = o + (j + 1) by omega]
    exact this
theorem sx_sg_app {a : Nat → Int32} (A B : List Int32) : ∀ o, sx_sg a o (A ++ B) ↔ sx_sg a o A ∧ sx_sg a (o + A.length) B := by
  induction A with
  | nil => intro o; simp [sx_sg]
  | cons x A ih =>
    intro o
    have e : o + (x :: A).length = o + 1 + A.length := by simp only [List.length_cons]; omega
    rw [e, List.cons_append]
    simp only [sx_sg]
    rw [ih (o + 1)]
    simp only [and_assoc]
theorem sx_sg_sh {a a' : Nat → Int32} (l : List Int32) : ∀ o o', (∀ j, j < l.length → a' (o' + j) = a (o + j)) → sx_sg a o l → sx_sg a' o' l := by
  induction l with
  | nil => intros; trivial
  | cons x l ih =>
    intro o o' h hr
    have h0 := h 0 (by simp)
    refine ⟨h0.trans hr.1, ih (o + 1) (o' + 1) (fun j hj => ?_) hr.2⟩
    have := h (j + 1) (by simp only [List.length_cons]; omega)
    rw [show o' + 1 + j = o' + (j + 1) by omega, show o + 1 + j = o + (j + 1) by omega]
    exact this
theorem sx_sg_get {a : Nat → Int32} (l : List Int32) : ∀ o q, sx_sg a o l → q < l.length → a (o + q) = l.getD q 0 := by
  induction l with
  | nil => intro o q _ h; exact absurd h (by simp)
  | cons x l ih =>
    intro o q h hq
    cases q with
    | zero => exact h.1
    | succ q =>
      have := ih (o + 1) q h.2 (by simp only [List.length_cons] at hq; omega)
      rw [show o + 1 + q = o + (q + 1) by omega] at this
      rw [this]
      rfl
theorem sx_sg_of {a : Nat → Int32} (l : List Int32) : ∀ o, (∀ q, q < l.length → a (o + q) = l.getD q 0) → sx_sg a o l := by
  induction l with
  | nil => intros; trivial
  | cons x l ih =>
    intro o h
    refine ⟨h 0 (by simp), ih (o + 1) (fun q hq => ?_)⟩
    have := h (q + 1) (by simp only [List.length_cons]; omega)
    rw [show o + 1 + q = o + (q + 1) by omega]
    exact this
theorem sx_gd_l {P Q : List Int32} {q : Nat} (h : q < P.length) : (P ++ Q).getD q 0 = P.getD q 0 := by
  simp only [List.getD_eq_getElem?_getD, List.getElem?_append_left h]
theorem sx_gd_r {P Q : List Int32} {q : Nat} (h : P.length ≤ q) : (P ++ Q).getD q 0 = Q.getD (q - P.length) 0 := by
  simp only [List.getD_eq_getElem?_getD, List.getElem?_append_right h]
theorem sx_snoc {α : Type} {l : List α} {k : Nat} (h : l.length = k + 1) : ∃ l' x, l = l' ++ [x] ∧ l'.length = k := by
  have hn : l ≠ [] := by intro e; rw [e] at h; simp at h
  exact ⟨l.dropLast, l.getLast hn, (List.dropLast_concat_getLast hn).symm, by rw [List.length_dropLast, h]; rfl⟩
theorem sx_td {x y l : List Int32} {p : Nat} (h : x ++ y = l) (hp : x.length = p) : x = l.take p ∧ y = l.drop p := by
  subst h hp
  simp
/-! the runs of given styles are one list -/
theorem sx_ex_cons {k : Nat} {s : Int32} {R : List (Nat × Int32)} (hk : 0 < k) : sx_ex ((k, s) :: R) = s :: (List.replicate (k - 1) s ++ sx_ex R) := by
  obtain ⟨m, rfl⟩ : ∃ m, k = m + 1 := ⟨k - 1, by omega⟩
  simp only [sx_ex, List.replicate_succ, List.cons_append, Nat.add_sub_cancel]
theorem sx_nohd {R : List (Nat × Int32)} {s : Int32} {l : List Int32} (h : sx_can R) (hs : sx_hd s R) : sx_ex R ≠ s :: l := by
  cases R with
  | nil => intro e; simp [sx_ex] at e
  | cons x R =>
    obtain ⟨k, t⟩ := x
    intro e
    rw [sx_ex_cons h.1] at e
    injection e with e1 e2
    exact hs e1.symm
theorem sx_rep {k d : Nat} {s : Int32} {x y : List Int32} (h : List.replicate k s ++ x = List.replicate (k + d) s ++ y) : x = List.replicate d s ++ y := by
  rw [← List.replicate_append_replicate, List.append_assoc] at h
  exact List.append_cancel_left h
theorem sx_uniq : ∀ (R R' : List (Nat × Int32)), sx_can R → sx_can R' → sx_ex R = sx_ex R' → R = R' := by
  intro R
  induction R with
  | nil =>
    intro R' _ h' e
    cases R' with
    | nil => rfl
    | cons x R' =>
      obtain ⟨k, s⟩ := x
      rw [sx_ex_cons h'.1] at e
      exact absurd e (sx_nohd (R := []) trivial trivial)
  | cons x R ih =>
    obtain ⟨k, s⟩ := x
    intro R' h h' e
    cases R' with
    | nil =>
      rw [sx_ex_cons h.1] at e
      exact absurd e.symm (sx_nohd (R := []) trivial trivial)
    | cons y R' =>
      obtain ⟨k', s'⟩ := y
      have hs : s = s' := by
        have e' := e
        rw [sx_ex_cons h.1, sx_ex_cons h'.1] at e'
        injection e'
      subst hs
      simp only [sx_ex] at e
      rcases Nat.lt_trichotomy k k' with hk | hk | hk
      · obtain ⟨d, rfl⟩ : ∃ d, k' = k + (d + 1) := ⟨k' - k - 1, by omega⟩
        have e2 := sx_rep e
        rw [List.replicate_succ, List.cons_append] at e2
        exact absurd e2 (sx_nohd h.2.2 h.2.1)
      · subst hk
        rw [ih R' h.2.2 h'.2.2 (List.append_cancel_left e)]
      · obtain ⟨d, rfl⟩ : ∃ d, k = k' + (d + 1) := ⟨k - k' - 1, by omega⟩
        have e2 := sx_rep e.symm
        rw [List.replicate_succ, List.cons_append] at e2
        exact absurd e2 (sx_nohd h'.2.2 h'.2.1)
theorem sx_S_uniq {a b a' b' : Nat → Int32} {c c' : Nat} {S : List Int32} (h : sx_S a b c S) (h' : sx_S a' b' c' S) : c = c' := by
  obtain ⟨R, _, h1, h2, h3⟩ := h
  obtain ⟨R', _, h1', h2', h3'⟩ := h'
  have := sx_uniq R R' h1 h1' (h2.trans h2'.symm)
  subst this
  exact h3.symm.trans h3'
theorem sx_cutw {A M U V : List (Nat × Int32)} {p : Nat} (e : A ++ M = U ++ V) (hA : sx_pos A) (h1 : sx_tot A ≤ p) (h2 : p ≤ sx_tot U) : ∃ W, U = A ++ W ∧ M = W ++ V := by
  rcases List.append_eq_append_iff.mp e with ⟨W, e1, e2⟩ | ⟨W, e1, e2⟩
  · exact ⟨W, e1, e2⟩
  · subst e1
    rw [sx_tot_app] at h1
    have hW : W = [] := sx_pos0 ((sx_pos_app _ _).mp hA).2 (by omega)
    subst hW
    exact ⟨[], by simp, by simpa using e2.symm⟩
/-- the style at a place of a run -/
theorem sx_ex_get {A M : List (Nat × Int32)} {x : Nat × Int32} {p : Nat} (h1 : sx_tot A ≤ p) (h2 : p < sx_tot A + x.1) : (sx_ex (A ++ x :: M)).getD p 0 = x.2 := by
  rw [sx_ex_app, sx_gd_r (by rw [sx_ex_len]; exact h1), sx_ex_len]
  simp only [sx_ex]
  rw [sx_gd_l (by rw [List.length_replicate]; omega)]
  rw [List.getD_eq_getElem?_getD, List.getElem?_replicate, if_pos (by omega)]
  rfl
/-! the buffer -/
def sx_ix (g n q : Nat) : Nat := if q < g then q else q + 64 - n
theorem sx_L_len {a : Nat → Int32} {g : Nat} {L : List Int32} (h : sx_L a g L) : g ≤ L.length := by
  obtain ⟨P, Q, rfl, rfl, _, _⟩ := h
  simp
theorem sx_ix_lt {g n q : Nat} (hg : g ≤ n) (h64 : n ≤ 64) (hq : q < n) : sx_ix g n q < 64 := by
  unfold sx_ix
  split <;> omega
theorem sx_L_get {a : Nat → Int32} {g q : Nat} {L : List Int32} (h : sx_L a g L) (h64 : L.length ≤ 64) (hq : q < L.length) : a (sx_ix g L.length q) = L.getD q 0 := by
  obtain ⟨P, Q, rfl, rfl, h1, h2⟩ := h
  rw [List.length_append] at *
  unfold sx_ix
  split
  · next z =>
    rw [sx_gd_l z, ← sx_sg_get P 0 q h1 z, Nat.zero_add]
  · next z =>
    rw [sx_gd_r (by omega), ← sx_sg_get Q _ (q - P.length) h2 (by omega)]
    exact congrArg a (by omega)
theorem sx_sg_set {a : Nat → Int32} {l : List Int32} {o q : Nat} {d : Int32} (h : sx_sg a o l) : sx_sg (upd a (o + q) d) o (l.set q d) := by
  refine sx_sg_of _ _ (fun q' hq' => ?_)
  rw [List.length_set] at hq'
  rw [List.getD_eq_getElem?_getD, List.getElem?_set]
  by_cases e : q = q'
  · subst e
    rw [pk_us, if_pos rfl, if_pos hq']
    rfl
  · rw [pk_un (by omega), if_neg e, ← List.getD_eq_getElem?_getD]
    exact sx_sg_get l o q' h hq'
theorem sx_sg_out {a : Nat → Int32} {l : List Int32} {o k : Nat} {d : Int32} (h : sx_sg a o l) (hk : k < o ∨ o + l.length ≤ k) : sx_sg (upd a k d) o l :=
  sx_sg_sh l o o (fun j hj => pk_un (by omega)) h
theorem sx_L_set {a : Nat → Int32} {g q : Nat} {L : List Int32} {d : Int32} (h : sx_L a g L) (h64 : L.length ≤ 64) (hq : q < L.length) : sx_L (upd a (sx_ix g L.length q) d) g (L.set q d) := by
  obtain ⟨P, Q, rfl, rfl, h1, h2⟩ := h
  rw [List.length_append] at *
  rw [List.set_append]
  unfold sx_ix
  by_cases z : q < P.length
  · rw [if_pos z, if_pos z]
    refine ⟨P.set q d, Q, rfl, List.length_set, ?_, sx_sg_out h2 (by omega)⟩
    have := sx_sg_set (q := q) (d := d) h1
    rwa [Nat.zero_add] at this
  · rw [if_neg z, if_neg z]
    refine ⟨P, Q.set (q - P.length) d, rfl, rfl, sx_sg_out h1 (by omega), ?_⟩
    have := sx_sg_set (q := q - P.length) (d := d) h2
    rw [List.length_set]
    rwa [show 64 - Q.length + (q - P.length) = q + 64 - (P.length + Q.length) by omega] at this
theorem sx_L_up {a : Nat → Int32} {k n : Nat} {L : List Int32} (h : sx_L a k L) (hn : L.length = n) (hk : k < n) (h64 : n ≤ 64) : sx_L (upd a k (a (k + (64 - n)))) (k + 1) L := by
  obtain ⟨P, Q, rfl, rfl, h1, h2⟩ := h
  rw [List.length_append] at hn
  cases Q with
  | nil => simp at hn; omega
  | cons x Q =>
    simp only [List.length_cons] at hn h2
    have e : P.length + (64 - n) = 64 - (Q.length + 1) := by omega
    have hx : a (64 - (Q.length + 1)) = x := h2.1
    have h3 := h2.2
    rw [show 64 - (Q.length + 1) + 1 = 64 - Q.length by omega] at h3
    rw [e, hx]
    refine ⟨P ++ [x], Q, by simp, by simp, (sx_sg_app _ _ _).mpr ⟨sx_sg_out h1 (by omega), ?_, trivial⟩, sx_sg_out h3 (by omega)⟩
    rw [Nat.zero_add]
    exact pk_us
theorem sx_L_down {a : Nat → Int32} {k n : Nat} {L : List Int32} (h : sx_L a (k + 1) L) (hn : L.length = n) (h64 : n ≤ 64) : sx_L (upd a (k + (64 - n)) (a k)) k L := by
  obtain ⟨P, Q, rfl, hP, h1, h2⟩ := h
  obtain ⟨P, x, rfl, hk⟩ := sx_snoc hP
  rw [List.length_append, List.length_append] at hn
  simp only [List.length_cons, List.length_nil] at hn
  have h3 := (sx_sg_app _ _ _).mp h1
  have hx : a k = x := by
    have := h3.2.1
    rw [Nat.zero_add, hk] at this
    exact this
  rw [hx]
  refine ⟨P, x :: Q, by simp, hk, sx_sg_out h3.1 (by omega), ?_, ?_⟩
  · rw [List.length_cons, show 64 - (Q.length + 1) = k + (64 - n) by omega]
    exact pk_us
  · rw [List.length_cons, show 64 - (Q.length + 1) + 1 = 64 - Q.length by omega]
    exact sx_sg_out h2 (by omega)
theorem sx_L_put {a : Nat → Int32} {p : Nat} {L : List Int32} {c : Int32} (h : sx_L a p L) (h64 : L.length < 64) : sx_L (upd a p c) (p + 1) (L.take p ++ c :: L.drop p) := by
  obtain ⟨P, Q, rfl, rfl, h1, h2⟩ := h
  rw [List.length_append] at h64
  rw [List.take_left' rfl, List.drop_left' rfl]
  refine ⟨P ++ [c], Q, by simp, by simp, (sx_sg_app _ _ _).mpr ⟨sx_sg_out h1 (by omega), ?_, trivial⟩, sx_sg_out h2 (by omega)⟩
  rw [Nat.zero_add]
  exact pk_us
theorem sx_L_drop {a : Nat → Int32} {i j : Nat} {L : List Int32} (h : sx_L a j L) (hi : i ≤ j) : sx_L a i (L.take i ++ L.drop j) := by
  obtain ⟨P, Q, rfl, rfl, h1, h2⟩ := h
  rw [List.drop_left' rfl, List.take_append_of_le_length hi]
  refine ⟨P.take i, Q, rfl, by rw [List.length_take]; omega, ?_, h2⟩
  rw [← List.take_append_drop i P] at h1
  exact ((sx_sg_app _ _ _).mp h1).1
end
section
/-! ===== the letters' methods ===== -/
theorem sx_lt {m p : Nat} (hm : m < 2 ^ 31) (hp : p < 2 ^ 31) : nI m - 1 < nI p ↔ m ≤ p := by
  cases m with
  | zero =>
    refine ⟨fun _ => Nat.zero_le p, fun _ => ?_⟩
    rw [Int32.lt_iff_toInt_lt, nI_toInt hp, show (nI 0 - 1).toInt = -1 by decide]
    omega
  | succ m =>
    rw [nI_pred, nI_ltI (by omega) hp]
    omega
section
variable {post : St1 → Prop} {n p g c : Nat} {cc fl hd bg : Int32} {a1 a2 a3 a4 a5 : Nat → Int32} {L : List Int32}
theorem sx_cellOf {post : Int32 → Prop} {q : Nat} (hg : g ≤ n) (h64 : n ≤ 64) (hq : q < n) (H : post (nI (sx_ix g n q))) : wpX_cellOf post (nI n, nI g, cc, fl, hd, bg, a1, a2, a3, a4, a5) (nI q) := by
  refine pk_le g q (fun z => ?_) (fun z => ?_)
  · have e : nI q + 64 - nI n = nI (q + 64 - n) := by
      rw [show (64 : Int32) = nI 64 from rfl, nI_add, pk_sub (by omega)]
    rw [e]
    unfold sx_ix at H
    rwa [if_neg (by omega)] at H
  · unfold sx_ix at H
    rwa [if_pos z] at H
theorem sx_mg45 (hn : L.length = n) (h64 : n ≤ 64) (hp : p ≤ n) (H : ∀ a, sx_L a p L → post (nI n, nI p, cc, fl, hd, bg, a, a2, a3, a4, a5)) :
    ∀ (d k : Nat) (a1 : Nat → Int32), k + d = p → sx_L a1 k L → wX_moveGap_45 post (nI p) (nI (64 - n)) (nI n) (nI g) cc fl hd bg (d + 1) (nI k) a1 a2 a3 a4 a5
  | 0, k, a1, h, hl => by
    obtain rfl : k = p := by omega
    exact pk_le k k (fun _ => H a1 hl) (fun z => absurd z (by omega))
  | d + 1, k, a1, h, hl => by
    have e1 : nI k + nI (64 - n) = nI (k + (64 - n)) := nI_add _ _
    have e2 : upd a1 (nI k).toNatClampNeg (a1 (nI k + nI (64 - n)).toNatClampNeg) = upd a1 k (a1 (k + (64 - n))) := by
      rw [e1, nI_clamp (by omega), nI_clamp (by omega)]
    exact pk_le p k (fun z => absurd z (by omega)) (fun _ => ⟨pk_in (k + (64 - n)) 64 (by omega) e1, pk_in k 64 (by omega), nm_r e2 (nm_r (nI_1 k) (sx_mg45 hn h64 hp H d (k + 1) _ (by omega) (sx_L_up hl hn (by omega) h64)))⟩)
theorem sx_mg15 (hn : L.length = n) (h64 : n ≤ 64) (hp : p ≤ n) (hpg : p ≤ g) (hg : g ≤ n) (H : ∀ a, sx_L a p L → post (nI n, nI p, cc, fl, hd, bg, a, a2, a3, a4, a5)) :
    ∀ (d m : Nat) (a1 : Nat → Int32), m = p + d → m ≤ g → sx_L a1 m L → wX_moveGap_15 post (nI p) (nI (64 - n)) (nI n) (nI g) cc fl hd bg (d + 1) (nI m - 1) a1 a2 a3 a4 a5
  | 0, m, a1, h, hm, hl => by
    obtain rfl : m = p := by omega
    exact br_t ((sx_lt (by omega) (by omega)).mpr (Nat.le_refl m)) ⟨1, pk_le m g (fun _ => H a1 hl) (fun z => absurd z (by omega))⟩
  | d + 1, m, a1, h, hm, hl => by
    obtain ⟨k, rfl⟩ : ∃ k, m = k + 1 := ⟨p + d, by omega⟩
    have e0 : nI (k + 1) - 1 = nI k := nI_pred k
    have e1 : nI (k + 1) - 1 + nI (64 - n) = nI (k + (64 - n)) := by rw [e0]; exact nI_add _ _
    have e2 : upd a1 (nI (k + 1) - 1 + nI (64 - n)).toNatClampNeg (a1 (nI (k + 1) - 1).toNatClampNeg) = upd a1 (k + (64 - n)) (a1 k) := by
      rw [e1, e0, nI_clamp (by omega), nI_clamp (by omega)]
    have e3 : nI (k + 1) - 1 + (-1) = nI k - 1 := by rw [e0]; exact (Int32.sub_eq_add_neg _ _).symm
    exact br_f (fun z => absurd ((sx_lt (by omega) (by omega)).mp z) (by omega)) ⟨pk_in k 64 (by omega) e0, pk_in (k + (64 - n)) 64 (by omega) e1, nm_r e2 (nm_r e3 (sx_mg15 hn h64 hp hpg hg H d k _ (by omega) (by omega) (sx_L_down hl hn h64)))⟩
theorem sx_moveGap (hn : L.length = n) (h64 : n ≤ 64) (hp : p ≤ n) (hl : sx_L a1 g L) (H : ∀ a, sx_L a p L → post (nI n, nI p, cc, fl, hd, bg, a, a2, a3, a4, a5)) :
    wpX_moveGap post (nI n, nI g, cc, fl, hd, bg, a1, a2, a3, a4, a5) (nI p) := by
  have hg : g ≤ n := hn ▸ sx_L_len hl
  refine nm_r (show (64 : Int32) - nI n = nI (64 - n) from pk_sub (a := 64) h64) (nm_e ?_)
  by_cases hpg : p ≤ g
  · exact ⟨g - p + 1, sx_mg15 hn h64 hp hpg hg H (g - p) g a1 (by omega) (Nat.le_refl g) hl⟩
  · exact ⟨1, br_t ((sx_lt (by omega) (by omega)).mpr (by omega)) ⟨p - g + 1, sx_mg45 hn h64 hp H (p - g) g a1 (by omega) hl⟩⟩
theorem sx_putLetter {x : Int32} (hn : L.length = n) (h64 : n < 64) (hp : p ≤ n) (hl : sx_L a1 g L) (H : ∀ a, sx_L a (p + 1) (L.take p ++ x :: L.drop p) → post (nI (n + 1), nI (p + 1), cc, fl, hd, bg, a, a2, a3, a4, a5)) :
    wpX_putLetter post (nI n, nI g, cc, fl, hd, bg, a1, a2, a3, a4, a5) (nI p) x := by
  unfold wpX_putLetter
  dsimp only
  refine sx_moveGap hn (by omega) hp hl (fun a ha => ?_)
  exact ⟨pk_in p 64 (by omega), nm_r (by rw [nI_clamp (by omega)]) (nm_r (nI_1 p) (nm_r (nI_1 n) (H _ (sx_L_put ha (by omega)))))⟩
theorem sx_dropLetters {i j : Nat} (hn : L.length = n) (h64 : n ≤ 64) (hi : i ≤ j) (hj : j ≤ n) (hl : sx_L a1 g L) (H : ∀ a, sx_L a i (L.take i ++ L.drop j) → post (nI (n - (j - i)), nI i, cc, fl, hd, bg, a, a2, a3, a4, a5)) :
    wpX_dropLetters post (nI n, nI g, cc, fl, hd, bg, a1, a2, a3, a4, a5) (nI i) (nI j) := by
  unfold wpX_dropLetters
  dsimp only
  refine sx_moveGap hn h64 hj hl (fun a ha => ?_)
  exact nm_r (by rw [pk_sub hi, pk_sub (by omega)]) (H _ (sx_L_drop ha hi))
end
end
section
/-! ===== the runs' methods ===== -/
section
variable {n g fl hd bg : Int32} {c p r : Nat} {a1 a2 a3 a4 a5 : Nat → Int32} {R : List (Nat × Int32)}
theorem sx_rn_at {a b : Nat → Int32} {A M : List (Nat × Int32)} {x : Nat × Int32} (h : sx_rn a b 0 (A ++ x :: M)) : a A.length = nI x.1 ∧ b A.length = x.2 := by
  have := ((sx_rn_app _ _ _).mp h).2
  rw [Nat.zero_add] at this
  exact ⟨this.1, this.2.1⟩
theorem sx_runAt9 {post : Int32 → St1 → Prop} (hr : sx_rn a2 a3 0 R) (hc : R.length = c) (hc64 : c ≤ 64) (ht : sx_tot R ≤ 64) (hp : p ≤ 64)
    (H : ∀ A M, R = A ++ M → sx_tot A ≤ p → (∀ x M', M = x :: M' → p < sx_tot A + x.1) → post (nI A.length) (n, g, nI c, fl, hd, nI (sx_tot A), a1, a2, a3, a4, a5)) :
    ∀ (M A : List (Nat × Int32)), R = A ++ M → sx_tot A ≤ p → wX_runAt_9 post (nI p) n g (nI c) fl hd a1 a2 a3 a4 a5 (M.length + 1) (nI A.length) (nI A.length) (nI (sx_tot A))
  | [], A, e, h => by
    have hl : A.length = c := by rw [← hc, e, List.append_nil]
    exact br_t (nI_le (by omega) (by omega)) (H A [] e h (fun x M' z => nomatch z))
  | x :: M, A, e, h => by
    have hl : A.length < c := by rw [← hc, e, List.length_append, List.length_cons]; omega
    have ht2 : sx_tot A + x.1 ≤ 64 := by
      rw [e, sx_tot_app] at ht
      simp only [sx_tot] at ht
      omega
    have hx := (sx_rn_at (e ▸ hr)).1
    have ea : nI (sx_tot A) + a2 (nI A.length).toNatClampNeg = nI (sx_tot A + x.1) := by
      rw [nI_clamp (by omega), hx]
      exact nI_add _ _
    refine br_f (nI_ge hl (by omega)) ⟨pk_in A.length 68 (by omega), pk_lt p (sx_tot A + x.1) (fun z => H A (x :: M) e h (fun y M' he => ?_)) (fun z => ⟨pk_in A.length 68 (by omega), nm_r ea (nm_r (nI_1 _) (nm_r (nI_1 _) ?_))⟩) rfl ea⟩
    · injection he with h1 h2
      rw [← h1]
      exact z
    · have e1 : (A ++ [x]).length = A.length + 1 := by simp
      have e2 : sx_tot (A ++ [x]) = sx_tot A + x.1 := by simp [sx_tot_app, sx_tot]
      have t := sx_runAt9 hr hc hc64 ht hp H M (A ++ [x]) (by rw [e]; simp) (by omega)
      rw [e1, e2] at t
      exact t
theorem sx_runAt {post : Int32 → St1 → Prop} (hr : sx_rn a2 a3 0 R) (hc : R.length = c) (hc64 : c ≤ 64) (ht : sx_tot R ≤ 64) (hp : p ≤ 64)
    (H : ∀ A M, R = A ++ M → sx_tot A ≤ p → (∀ x M', M = x :: M' → p < sx_tot A + x.1) → post (nI A.length) (n, g, nI c, fl, hd, nI (sx_tot A), a1, a2, a3, a4, a5)) :
    wpX_runAt post (n, g, nI c, fl, hd, bg, a1, a2, a3, a4, a5) (nI p) :=
  ⟨R.length + 1, sx_runAt9 hr hc hc64 ht hp H R [] rfl (Nat.zero_le p)⟩
theorem sx_open5 {post : St1 → Prop} (hr : r ≤ c) (hc : c < 68) (H : ∀ a b, (∀ j, j ≤ r → a j = a2 j ∧ b j = a3 j) → (∀ j, r < j → j ≤ c → a j = a2 (j - 1) ∧ b j = a3 (j - 1)) → post (n, g, nI (c + 1), fl, hd, bg, a1, a, b, a4, a5)) :
    ∀ (d k : Nat) (a b : Nat → Int32), k = r + d → k ≤ c → (∀ j, j ≤ k → a j = a2 j ∧ b j = a3 j) → (∀ j, k < j → j ≤ c → a j = a2 (j - 1) ∧ b j = a3 (j - 1)) → wX_openRun_5 post (nI r) n g (nI c) fl hd bg (d + 1) (nI k) a1 a b a4 a5
  | 0, k, a, b, h, hk, h1, h2 => by
    obtain rfl : k = r := by omega
    exact pk_le k k (fun _ => nm_r (nI_1 c) (H a b h1 h2)) (fun z => absurd z (by omega))
  | d + 1, k, a, b, h, hk, h1, h2 => by
    obtain ⟨m, rfl⟩ : ∃ m, k = m + 1 := ⟨r + d, by omega⟩
    have e0 : nI (m + 1) - 1 = nI m := nI_pred m
    have ea : ∀ f : Nat → Int32, upd f (nI (m + 1)).toNatClampNeg (f (nI (m + 1) - 1).toNatClampNeg) = upd f (m + 1) (f m) := fun f => by
      rw [e0, nI_clamp (by omega), nI_clamp (by omega)]
    refine pk_le (m + 1) r (fun z => absurd z (by omega)) (fun _ => ⟨pk_in m 68 (by omega) e0, pk_in (m + 1) 68 (by omega), nm_r (ea a) ⟨pk_in m 68 (by omega) e0, pk_in (m + 1) 68 (by omega), nm_r (ea b) (nm_r (pk_m1 m) (sx_open5 hr hc H d m _ _ (by omega) (by omega) (fun j hj => ?_) (fun j hj hjc => ?_)))⟩⟩)
    · rw [pk_un (by omega), pk_un (by omega)]
      exact h1 j (by omega)
    · by_cases e : j = m + 1
      · subst e
        rw [pk_us, pk_us]
        exact h1 m (by omega)
      · rw [pk_un e, pk_un e]
        exact h2 j (by omega) hjc
theorem sx_openRun {post : St1 → Prop} (hr : r ≤ c) (hc : c < 68) (H : ∀ a b, (∀ j, j ≤ r → a j = a2 j ∧ b j = a3 j) → (∀ j, r < j → j ≤ c → a j = a2 (j - 1) ∧ b j = a3 (j - 1)) → post (n, g, nI (c + 1), fl, hd, bg, a1, a, b, a4, a5)) :
    wpX_openRun post (n, g, nI c, fl, hd, bg, a1, a2, a3, a4, a5) (nI r) :=
  ⟨c - r + 1, sx_open5 hr hc H (c - r) c a2 a3 (by omega) (Nat.le_refl c) (fun _ _ => ⟨rfl, rfl⟩) (fun j h1 h2 => absurd h1 (by omega))⟩
theorem sx_close12 {post : St1 → Prop} (hr : r ≤ c) (hc : c < 67) (H : ∀ a b, (∀ j, j < r → a j = a2 j ∧ b j = a3 j) → (∀ j, r ≤ j → j < c → a j = a2 (j + 1) ∧ b j = a3 (j + 1)) → post (n, g, nI c, fl, hd, bg, a1, a, b, a4, a5)) :
    ∀ (d k : Nat) (a b : Nat → Int32), k + d = c → r ≤ k → (∀ j, j < r → a j = a2 j ∧ b j = a3 j) → (∀ j, r ≤ j → j < k → a j = a2 (j + 1) ∧ b j = a3 (j + 1)) → (∀ j, k ≤ j → a j = a2 j ∧ b j = a3 j) → wX_closeRun_12 post n g (nI c) fl hd bg (d + 1) (nI k) a1 a b a4 a5
  | 0, k, a, b, h, hk, h1, h2, h3 => by
    obtain rfl : k = c := by omega
    exact pk_le k k (fun _ => H a b h1 h2) (fun z => absurd z (by omega))
  | d + 1, k, a, b, h, hk, h1, h2, h3 => by
    have e0 : nI k + 1 = nI (k + 1) := nI_1 k
    have ea : ∀ f : Nat → Int32, upd f (nI k).toNatClampNeg (f (nI k + 1).toNatClampNeg) = upd f k (f (k + 1)) := fun f => by
      rw [e0, nI_clamp (by omega), nI_clamp (by omega)]
    refine pk_le c k (fun z => absurd z (by omega)) (fun _ => ⟨pk_in (k + 1) 68 (by omega) e0, pk_in k 68 (by omega), nm_r (ea a) ⟨pk_in (k + 1) 68 (by omega) e0, pk_in k 68 (by omega), nm_r (ea b) (nm_r e0 (sx_close12 hr hc H d (k + 1) _ _ (by omega) (by omega) (fun j hj => ?_) (fun j hj hjk => ?_) (fun j hj => ?_)))⟩⟩)
    · rw [pk_un (by omega), pk_un (by omega)]
      exact h1 j hj
    · by_cases e : j = k
      · subst e
        rw [pk_us, pk_us]
        exact h3 (j + 1) (by omega)
      · rw [pk_un e, pk_un e]
        exact h2 j hj (by omega)
    · rw [pk_un (by omega), pk_un (by omega)]
      exact h3 j (by omega)
theorem sx_closeRun {post : St1 → Prop} {A M : List (Nat × Int32)} {x : Nat × Int32} (hr : sx_rn a2 a3 0 (A ++ x :: M)) (hA : A.length = r) (hc : A.length + M.length = c) (h67 : c < 67) (H : ∀ a b, sx_rn a b 0 (A ++ M) → post (n, g, nI c, fl, hd, bg, a1, a, b, a4, a5)) :
    wpX_closeRun post (n, g, nI (c + 1), fl, hd, bg, a1, a2, a3, a4, a5) (nI r) := by
  subst hA
  refine nm_r (nI_pred c) ⟨c - A.length + 1, sx_close12 (r := A.length) (by omega) h67 (fun a b h1 h2 => H a b ?_) (c - A.length) A.length a2 a3 (by omega) (Nat.le_refl _) (fun _ _ => ⟨rfl, rfl⟩) (fun j _ _ => absurd ‹j < A.length› (by omega)) (fun _ _ => ⟨rfl, rfl⟩)⟩
  have h3 := (sx_rn_app _ _ _).mp hr
  rw [Nat.zero_add] at h3
  refine (sx_rn_app _ _ _).mpr ⟨sx_rn_sh A 0 0 (fun j hj => ?_) h3.1, sx_rn_sh M (A.length + 1) (0 + A.length) (fun j hj => ?_) h3.2.2.2⟩
  · rw [Nat.zero_add]
    exact h1 j hj
  · rw [show 0 + A.length + j = A.length + j by omega, show A.length + 1 + j = A.length + j + 1 by omega]
    exact h2 _ (by omega) (by omega)
theorem sx_cutAt {post : Int32 → St1 → Prop} {U V : List (Nat × Int32)} (hr : sx_rn a2 a3 0 R) (hR : R = U ++ V) (hpos : sx_pos R) (ht : sx_tot R ≤ 64) (hp : p ≤ sx_tot U) (hc : R.length = c)
    (H : ∀ U1 U2 a b c' bg', sx_pos (U1 ++ (U2 ++ V)) → sx_tot U1 = p → sx_ex U1 ++ sx_ex U2 = sx_ex U → sx_rn a b 0 (U1 ++ (U2 ++ V)) → (U1 ++ (U2 ++ V)).length = c' → post (nI U1.length) (n, g, nI c', fl, hd, bg', a1, a, b, a4, a5)) :
    wpX_cutAt post (n, g, nI c, fl, hd, bg, a1, a2, a3, a4, a5) (nI p) := by
  have hcl : c ≤ 64 := by have := sx_pos_len hpos; omega
  have hUV : sx_tot U + sx_tot V = sx_tot R := by rw [hR, sx_tot_app]
  unfold wpX_cutAt
  dsimp only
  refine sx_runAt hr hc hcl ht (by omega) (fun A M e h1 h2 => ?_)
  have hposA : sx_pos A := ((sx_pos_app _ _).mp (e ▸ hpos)).1
  obtain ⟨W, rfl, rfl⟩ := sx_cutw (e.symm.trans hR) hposA h1 hp
  have hcA : A.length + (W.length + V.length) = c := by rw [← hc, e]; simp
  have hAp : sx_tot A ≤ 64 := by omega
  by_cases hpA : sx_tot A = p
  · have K : post (nI A.length) (n, g, nI c, fl, hd, nI (sx_tot A), a1, a2, a3, a4, a5) := H A W a2 a3 c _ (e ▸ hpos) hpA (sx_ex_app A W).symm (e ▸ hr) (e ▸ hc)
    exact br_c (fun _ => K) (fun _ => pk_le p (sx_tot A) (fun _ => K) (fun z => absurd z (by omega)))
  · cases W with
    | nil =>
      rw [List.append_nil] at hp
      exact absurd hp (by omega)
    | cons x W =>
      obtain ⟨k, s⟩ := x
      have hk : p < sx_tot A + k := h2 (k, s) (W ++ V) (by simp)
      simp only [List.length_cons] at hcA
      have hk64 : k ≤ 64 := by
        rw [sx_tot_app] at hUV
        simp only [sx_tot] at hUV
        omega
      rw [show (A ++ ((k, s) :: W ++ V)) = A ++ (k, s) :: (W ++ V) by simp] at e
      have hr' : sx_rn a2 a3 0 (A ++ (k, s) :: (W ++ V)) := e ▸ hr
      have hx := sx_rn_at hr'
      have h3 := (sx_rn_app _ _ _).mp hr'
      rw [Nat.zero_add] at h3
      refine pk_le c A.length (fun z => absurd z (by omega)) (fun _ => pk_le p (sx_tot A) (fun z => absurd z (by omega)) (fun _ => sx_openRun (r := A.length) (by omega) (by omega) (fun a b ha hb => ?_)))
      have e1 : nI A.length + 1 = nI (A.length + 1) := nI_1 _
      have eu1 : upd a (nI A.length).toNatClampNeg (nI p - nI (sx_tot A)) = upd a A.length (nI (p - sx_tot A)) := by
        rw [nI_clamp (by omega), pk_sub h1]
      have ha1 : a (A.length + 1) = nI k := by
        rw [(hb (A.length + 1) (by omega) (by omega)).1]
        exact hx.1
      have eu2 : upd (upd a A.length (nI (p - sx_tot A))) (nI A.length + 1).toNatClampNeg (upd a A.length (nI (p - sx_tot A)) (nI A.length + 1).toNatClampNeg - upd a A.length (nI (p - sx_tot A)) (nI A.length).toNatClampNeg) = upd (upd a A.length (nI (p - sx_tot A))) (A.length + 1) (nI (k - (p - sx_tot A))) := by
        rw [e1, nI_clamp (by omega), nI_clamp (by omega), pk_us, pk_un (by omega), ha1, pk_sub (by omega)]
      refine ⟨pk_in A.length 68 (by omega), nm_r eu1 ⟨pk_in (A.length + 1) 68 (by omega) e1, pk_in A.length 68 (by omega), pk_in (A.length + 1) 68 (by omega) e1, nm_r eu2 (nm_r e1 ?_)⟩⟩
      have t := H (A ++ [(p - sx_tot A, s)]) ((k - (p - sx_tot A), s) :: W) (upd (upd a A.length (nI (p - sx_tot A))) (A.length + 1) (nI (k - (p - sx_tot A)))) b (c + 1) (nI (sx_tot A)) ?_ ?_ ?_ ?_ ?_
      · rw [List.length_append, List.length_cons, List.length_nil] at t
        exact t
      · have hp2 := (sx_pos_app _ _).mp (e ▸ hpos)
        refine (sx_pos_app _ _).mpr ⟨(sx_pos_app _ _).mpr ⟨hp2.1, ?_, trivial⟩, ?_, hp2.2.2⟩
        · show 0 < p - sx_tot A
          omega
        · show 0 < k - (p - sx_tot A)
          omega
      · rw [sx_tot_app]
        simp only [sx_tot]
        omega
      · rw [sx_ex_app, sx_ex_app]
        simp only [sx_ex, List.append_nil, List.append_assoc]
        rw [← List.append_assoc (List.replicate (p - sx_tot A) s), List.replicate_append_replicate, show p - sx_tot A + (k - (p - sx_tot A)) = k by omega]
      · rw [List.append_assoc]
        refine (sx_rn_app _ _ _).mpr ⟨sx_rn_sh A 0 0 (fun j hj => ?_) h3.1, ?_⟩
        · rw [Nat.zero_add, pk_un (by omega), pk_un (by omega)]
          exact ha j (by omega)
        · rw [Nat.zero_add]
          refine ⟨?_, (ha A.length (Nat.le_refl _)).2.trans hx.2, ?_, ?_, sx_rn_sh (W ++ V) (A.length + 1) (A.length + 1 + 1) (fun j hj => ?_) h3.2.2.2⟩
          · rw [pk_un (by omega), pk_us]
          · rw [pk_us]
          · rw [(hb (A.length + 1) (by omega) (by omega)).2]
            exact hx.2
          · rw [List.length_append] at hj
            rw [pk_un (by omega), pk_un (by omega)]
            have := hb (A.length + 1 + 1 + j) (by omega) (by omega)
            rw [show A.length + 1 + 1 + j - 1 = A.length + 1 + j by omega] at this
            exact this
      · simp only [List.length_append, List.length_cons, List.length_nil]
        omega
end
end
section
/-! ===== joining, putting and dropping styles ===== -/
theorem sx_rn_putA {a b : Nat → Int32} {A M : List (Nat × Int32)} {x : Nat × Int32} {r k : Nat} (h : sx_rn a b 0 (A ++ x :: M)) (hA : A.length = r) : sx_rn (upd a r (nI k)) b 0 (A ++ (k, x.2) :: M) := by
  subst hA
  have h3 := (sx_rn_app _ _ _).mp h
  rw [Nat.zero_add] at h3
  refine (sx_rn_app _ _ _).mpr ⟨sx_rn_sh A 0 0 (fun j hj => ⟨pk_un (by omega), rfl⟩) h3.1, ?_⟩
  rw [Nat.zero_add]
  exact ⟨pk_us, h3.2.2.1, sx_rn_sh M _ _ (fun j hj => ⟨pk_un (by omega), rfl⟩) h3.2.2.2⟩
theorem sx_rn_putB {a b : Nat → Int32} {A M : List (Nat × Int32)} {x : Nat × Int32} {r : Nat} {s : Int32} (h : sx_rn a b 0 (A ++ x :: M)) (hA : A.length = r) : sx_rn a (upd b r s) 0 (A ++ (x.1, s) :: M) := by
  subst hA
  have h3 := (sx_rn_app _ _ _).mp h
  rw [Nat.zero_add] at h3
  refine (sx_rn_app _ _ _).mpr ⟨sx_rn_sh A 0 0 (fun j hj => ⟨rfl, pk_un (by omega)⟩) h3.1, ?_⟩
  rw [Nat.zero_add]
  exact ⟨h3.2.1, pk_us, sx_rn_sh M _ _ (fun j hj => ⟨rfl, pk_un (by omega)⟩) h3.2.2.2⟩
section
variable {n g fl hd bg : Int32} {c p r : Nat} {a1 a2 a3 a4 a5 : Nat → Int32} {R : List (Nat × Int32)}
theorem sx_join7 {post : St1 → Prop} {S : List Int32} (H : ∀ a b c', sx_S a b c' S → post (n, g, nI c', fl, hd, bg, a1, a, b, a4, a5)) :
    ∀ (m : Nat) (P Q : List (Nat × Int32)) (a b : Nat → Int32) (c : Nat), P.length = m → P.length + Q.length = c → c ≤ 64 → Q ≠ [] → sx_pos P → sx_can Q → sx_ex (P ++ Q) = S → sx_rn a b 0 (P ++ Q) → wX_joinRuns_7 post (m + 1) (nI m) n g (nI c) fl hd bg a1 a b a4 a5
  | 0, P, Q, a, b, c, hm, hc, h64, hQ, hp, hq, hS, hr => by
    obtain rfl : P = [] := List.length_eq_zero_iff.mp hm
    exact br_t (nI_le (Nat.le_refl 0) (by decide)) (H a b c ⟨Q, hr, hq, hS, by simpa using hc⟩)
  | m + 1, P, Q, a, b, c, hm, hc, h64, hQ, hp, hq, hS, hr => by
    obtain ⟨P, x, rfl, hP⟩ := sx_snoc hm
    cases Q with
    | nil => exact absurd rfl hQ
    | cons y Q =>
      obtain ⟨k, s⟩ := x
      obtain ⟨k', s'⟩ := y
      rw [List.append_assoc, List.singleton_append] at hr hS
      rw [hm, List.length_cons] at hc
      have hp2 := (sx_pos_app _ _).mp hp
      have h1 := sx_rn_at hr
      have h2 : a (P.length + 1) = nI k' ∧ b (P.length + 1) = s' := by
        have := ((sx_rn_app _ _ _).mp hr).2.2.2
        rw [Nat.zero_add] at this
        exact ⟨this.1, this.2.1⟩
      rw [hP] at h1 h2
      have e0 : nI (m + 1) - 1 = nI m := nI_pred m
      have eb1 : b (nI (m + 1)).toNatClampNeg = s' := by rw [nI_clamp (by omega)]; exact h2.2
      have eb2 : b (nI (m + 1) - 1).toNatClampNeg = s := by rw [e0, nI_clamp (by omega)]; exact h1.2
      refine br_f (nI_nle (Nat.succ_pos m) (by omega)) ⟨pk_in (m + 1) 68 (by omega), pk_in m 68 (by omega) e0, ?_⟩
      by_cases hs : s' = s
      · subst hs
        obtain ⟨c0, rfl⟩ : ∃ c0, c = c0 + 1 := ⟨m + 1 + Q.length, by omega⟩
        have eu : upd a (nI (m + 1) - 1).toNatClampNeg (a (nI (m + 1) - 1).toNatClampNeg + a (nI (m + 1)).toNatClampNeg) = upd a m (nI (k + k')) := by
          rw [e0, nI_clamp (by omega), nI_clamp (by omega), h1.1, h2.1]
          exact congrArg _ (nI_add k k')
        refine br_t (eb1.trans eb2.symm) ⟨pk_in m 68 (by omega) e0, pk_in (m + 1) 68 (by omega), pk_in m 68 (by omega) e0, nm_r eu ?_⟩
        refine sx_closeRun (A := P ++ [(k + k', s')]) (x := (k', s')) (M := Q) ?_ (by simp [hP]) (by simp [hP]; omega) (by omega) (fun a' b' hr' => nm_r (pk_m1 m) (sx_join7 H m P ((k + k', s') :: Q) a' b' c0 hP ?_ (by omega) (by simp) hp2.1 ⟨?_, hq.2.1, hq.2.2⟩ ?_ ?_))
        · have := sx_rn_putA (k := k + k') hr hP
          rw [List.append_assoc, List.singleton_append]
          exact this
        · rw [List.length_cons]
          omega
        · have : 0 < k' := hq.1
          show 0 < k + k'
          omega
        · rw [← hS, sx_ex_app, sx_ex_app]
          simp only [sx_ex]
          rw [← List.append_assoc (List.replicate k s'), List.replicate_append_replicate]
        · rw [List.append_assoc, List.singleton_append] at hr'
          exact hr'
      · refine br_f (fun z => hs (eb1.symm.trans (z.trans eb2))) (nm_r (pk_m1 m) (sx_join7 H m P ((k, s) :: (k', s') :: Q) a b c hP ?_ h64 (by simp) hp2.1 ⟨hp2.2.1, ?_, hq⟩ hS hr))
        · simp only [List.length_cons]
          omega
        · exact fun z => hs z.symm
theorem sx_joinRuns {post : St1 → Prop} (hr : sx_rn a2 a3 0 R) (hpos : sx_pos R) (hc : R.length = c) (h64 : c ≤ 64) (H : ∀ a b c', sx_S a b c' (sx_ex R) → post (n, g, nI c', fl, hd, bg, a1, a, b, a4, a5)) :
    wpX_joinRuns post (n, g, nI c, fl, hd, bg, a1, a2, a3, a4, a5) := by
  cases c with
  | zero =>
    obtain rfl : R = [] := List.length_eq_zero_iff.mp hc
    exact nm_e ⟨1, br_t (show nI 0 - 1 ≤ 0 by decide) (H a2 a3 0 ⟨[], trivial, trivial, rfl, rfl⟩)⟩
  | succ m =>
    obtain ⟨P, x, rfl, hP⟩ := sx_snoc hc
    have hp2 := (sx_pos_app _ _).mp hpos
    exact nm_r (nI_pred m) ⟨m + 1, sx_join7 H m P [x] a2 a3 (m + 1) hP (by simp [hP]) h64 (by simp) hp2.1 ⟨hp2.2.1, trivial, trivial⟩ rfl hr⟩
theorem sx_putStyles {post : St1 → Prop} {S : List Int32} {k : Nat} {s : Int32} (hS : sx_S a2 a3 c S) (hp : p ≤ S.length) (h64 : S.length + k ≤ 64)
    (H : ∀ a b c' bg', sx_S a b c' (S.take p ++ List.replicate k s ++ S.drop p) → post (n, g, nI c', fl, hd, bg', a1, a, b, a4, a5)) :
    wpX_putStyles post (n, g, nI c, fl, hd, bg, a1, a2, a3, a4, a5) (nI p) (nI k) s := by
  obtain ⟨R, hr, hcan, rfl, hc⟩ := hS
  have hpos := sx_can_pos hcan
  rw [sx_ex_len] at hp h64
  by_cases hk : k = 0
  · subst hk
    exact br_t rfl (H a2 a3 c bg ⟨R, hr, hcan, by simp, hc⟩)
  · unfold wpX_putStyles
    dsimp only
    refine br_f (nI_ne0 (by omega) (by omega)) (sx_cutAt (U := R) (V := []) hr (by simp) hpos (by omega) hp hc (fun U1 U2 a b c' bg' h1 h2 h3 h4 h5 => ?_))
    rw [List.append_nil] at h1 h4 h5
    have hlen : sx_tot U1 + sx_tot U2 = sx_tot R := by
      have := congrArg List.length h3
      rwa [List.length_append, sx_ex_len, sx_ex_len, sx_ex_len] at this
    have hpl := sx_pos_len h1
    rw [sx_tot_app] at hpl
    have h5' := h5
    rw [List.length_append] at h5'
    have htd := sx_td h3 ((sx_ex_len U1).trans h2)
    dsimp only
    refine sx_openRun (r := U1.length) (by omega) (by omega) (fun a' b' ha hb => ?_)
    dsimp only
    have hi : (nI U1.length).toNatClampNeg = U1.length := nI_clamp (by omega)
    refine ⟨pk_in U1.length 68 (by omega), nm_r (by rw [hi]) ⟨pk_in U1.length 68 (by omega), nm_r (by rw [hi]) ?_⟩⟩
    have hp1 := (sx_pos_app _ _).mp h1
    have h6 := (sx_rn_app _ _ _).mp h4
    rw [Nat.zero_add] at h6
    refine sx_joinRuns (R := U1 ++ (k, s) :: U2) ?_ ((sx_pos_app _ _).mpr ⟨hp1.1, (show 0 < k by omega), hp1.2⟩) (by simp only [List.length_append, List.length_cons]; omega) (by omega) (fun a'' b'' c'' hS => H a'' b'' c'' bg' ?_)
    · refine (sx_rn_app _ _ _).mpr ⟨sx_rn_sh U1 0 0 (fun j hj => ?_) h6.1, ?_⟩
      · rw [Nat.zero_add, pk_un (by omega), pk_un (by omega)]
        exact ha j (by omega)
      · rw [Nat.zero_add]
        refine ⟨pk_us, pk_us, sx_rn_sh U2 U1.length (U1.length + 1) (fun j hj => ?_) h6.2⟩
        rw [pk_un (by omega), pk_un (by omega)]
        have := hb (U1.length + 1 + j) (by omega) (by omega)
        rw [show U1.length + 1 + j - 1 = U1.length + j by omega] at this
        exact this
    · rw [sx_ex_app] at hS
      simp only [sx_ex] at hS
      rw [htd.1, htd.2] at hS
      rw [List.append_assoc]
      exact hS
theorem sx_ds26 {post : St1 → Prop} {A B : List (Nat × Int32)} {S : List Int32} (hA : A.length = r) (hpos : sx_pos (A ++ B)) (hS : sx_ex (A ++ B) = S) (H : ∀ a b c', sx_S a b c' S → post (n, g, nI c', fl, hd, bg, a1, a, b, a4, a5)) :
    ∀ (M : List (Nat × Int32)) (k : Nat) (a b : Nat → Int32) (c : Nat), sx_pos M → k + sx_tot M ≤ 64 → sx_rn a b 0 (A ++ (M ++ B)) → r + (M.length + B.length) = c → c ≤ 64 → wX_dropStyles_26 post (nI r) (M.length + 1) (nI (sx_tot M)) (nI k) n g (nI c) fl hd bg a1 a b a4 a5
  | [], k, a, b, c, hM, hk, hr, hc, h64 => by
    have K : wX_dropStyles_60 post n g (nI c) fl hd bg a1 a b a4 a5 := by
      unfold wX_dropStyles_60
      refine sx_joinRuns (R := A ++ B) hr hpos (by simpa [hA] using hc) h64 (fun a' b' c' h => ?_)
      rw [hS] at h
      exact H a' b' c' h
    exact br_c (fun _ => K) (fun _ => br_t (nI_le (Nat.le_refl 0) (by decide)) K)
  | x :: M, k, a, b, c, hM, hk, hr, hc, h64 => by
    have hx := (sx_rn_at (M := M ++ B) hr).1
    have hx0 := hM.1
    simp only [sx_tot] at hk
    simp only [List.length_cons] at hc
    obtain ⟨c0, rfl⟩ : ∃ c0, c = c0 + 1 := ⟨r + (M.length + B.length), by omega⟩
    rw [hA] at hx
    have e1 : nI (sx_tot (x :: M)) - a (nI r).toNatClampNeg = nI (sx_tot M) := by
      rw [nI_clamp (by omega), hx]
      simp only [sx_tot]
      rw [pk_sub (by omega), Nat.add_sub_cancel_left]
    refine pk_le 64 k (fun z => absurd z (by omega)) (fun _ => br_f (nI_nle (by simp only [sx_tot]; omega) (by simp only [sx_tot]; omega)) ⟨pk_in r 68 (by omega), nm_r e1 ?_⟩)
    refine sx_closeRun (A := A) (x := x) (M := M ++ B) hr hA (by rw [hA, List.length_append]; omega) (by omega) (fun a' b' hr' => nm_r (nI_1 k) (sx_ds26 hA hpos hS H M (k + 1) a' b' c0 hM.2 (by omega) hr' (by omega) (by omega)))
/-- what two cuts leave -/
theorem sx_cut2 {post : Int32 → St1 → Prop} {S : List Int32} {i j : Nat} (hS : sx_S a2 a3 c S) (hi : i ≤ j) (hj : j ≤ S.length) (h64 : S.length ≤ 64)
    (H : ∀ A M B a b c' bg', sx_pos (A ++ (M ++ B)) → sx_tot A = i → sx_tot M = j - i → sx_ex A = S.take i → sx_ex M = (S.take j).drop i → sx_ex B = S.drop j → sx_rn a b 0 (A ++ (M ++ B)) → (A ++ (M ++ B)).length = c' → c' ≤ 64 → post (nI A.length) (n, g, nI c', fl, hd, bg', a1, a, b, a4, a5)) :
    wpX_cutAt (fun _ u => wpX_cutAt post u (nI i)) (n, g, nI c, fl, hd, bg, a1, a2, a3, a4, a5) (nI j) := by
  obtain ⟨R, hr, hcan, rfl, hc⟩ := hS
  rw [sx_ex_len] at hj h64
  refine sx_cutAt (U := R) (V := []) hr (by simp) (sx_can_pos hcan) h64 hj hc (fun U B a b c' bg' h1 h2 h3 h4 h5 => ?_)
  rw [List.append_nil] at h1 h4 h5
  have hlen : sx_tot U + sx_tot B = sx_tot R := by
    have := congrArg List.length h3
    rwa [List.length_append, sx_ex_len, sx_ex_len, sx_ex_len] at this
  have htd := sx_td h3 ((sx_ex_len U).trans h2)
  refine sx_cutAt (U := U) (V := B) h4 rfl h1 (by rw [sx_tot_app]; omega) (by omega) h5 (fun A M a' b' c'' bg'' k1 k2 k3 k4 k5 => ?_)
  have hlen2 : sx_tot A + sx_tot M = sx_tot U := by
    have := congrArg List.length k3
    rwa [List.length_append, sx_ex_len, sx_ex_len, sx_ex_len] at this
  have htd2 := sx_td k3 ((sx_ex_len A).trans k2)
  have hpl := sx_pos_len k1
  rw [sx_tot_app, sx_tot_app] at hpl
  refine H A M B a' b' c'' bg'' k1 k2 (by omega) ?_ ?_ htd.2 k4 k5 (by omega)
  · rw [htd2.1, htd.1, List.take_take, Nat.min_eq_left hi]
  · rw [htd2.2, htd.1]
theorem sx_dropStyles {post : St1 → Prop} {S : List Int32} {i j : Nat} (hS : sx_S a2 a3 c S) (hi : i ≤ j) (hj : j ≤ S.length) (h64 : S.length ≤ 64)
    (H : ∀ a b c' bg', sx_S a b c' (S.take i ++ S.drop j) → post (n, g, nI c', fl, hd, bg', a1, a, b, a4, a5)) :
    wpX_dropStyles post (n, g, nI c, fl, hd, bg, a1, a2, a3, a4, a5) (nI i) (nI j) := by
  refine pk_eq i j (fun e => H a2 a3 c bg ?_) (fun e => ?_)
  · subst e
    rwa [List.take_append_drop]
  · refine sx_cut2 (post := fun r u => match u with | (f0_n, f0_gap, f0_count, f0_flagAt, f0_held, f0_begun, a1, a2, a3, a4, a5) => ∀ x4, x4 = nI j - nI i → ∃ fu26 : Nat, wX_dropStyles_26 post r fu26 x4 0 f0_n f0_gap f0_count f0_flagAt f0_held f0_begun a1 a2 a3 a4 a5) hS hi hj h64 (fun A M B a b c' bg' h1 h2 h3 h4 h5 h6 h7 h8 h9 => ?_)
    have hp1 := (sx_pos_app _ _).mp h1
    have hp2 := (sx_pos_app _ _).mp hp1.2
    simp only [List.length_append] at h8
    have t := sx_ds26 (post := post) (n := n) (g := g) (fl := fl) (hd := hd) (bg := bg') (a1 := a1) (a4 := a4) (a5 := a5) (A := A) (B := B) rfl ((sx_pos_app _ _).mpr ⟨hp1.1, hp2.2⟩) (show sx_ex (A ++ B) = S.take i ++ S.drop j by rw [sx_ex_app, h4, h6]) (fun a b c' h => H a b c' bg' h) M 0 a b c' hp2.1 (by omega) h7 h8 h9
    rw [h3] at t
    exact nm_r (pk_sub hi) ⟨M.length + 1, t⟩
end
end
section
/-! ===== putting in, taking out, holding, giving back ===== -/
theorem sx_at {A Y B : List Int32} {p q : Nat} (hA : A.length = p) (hY : Y.length = q) : (A ++ Y ++ B).take (p + q) = A ++ Y ∧ (A ++ Y ++ B).drop (p + q) = B :=
  ⟨List.take_left' (by rw [List.length_append, hA, hY]), List.drop_left' (by rw [List.length_append, hA, hY])⟩
theorem sx_tk {L : List Int32} {p n : Nat} (hn : L.length = n) (hp : p ≤ n) : (L.take p).length = p := by
  rw [List.length_take]
  omega
theorem sx_inl {L Y : List Int32} {p n m : Nat} (hn : L.length = n) (hp : p ≤ n) (hY : Y.length = m) : (L.take p ++ Y ++ L.drop p).length = n + m := by
  simp only [List.length_append, List.length_take, List.length_drop]
  omega
theorem sx_sl {L : List Int32} {i j q : Nat} (h : q < j - i) : ((L.take j).drop i).getD q 0 = L.getD (i + q) 0 := by
  rw [List.getD_eq_getElem?_getD, List.getD_eq_getElem?_getD, List.getElem?_drop, List.getElem?_take, if_pos (by omega)]
theorem sx_sll {L : List Int32} {i j n : Nat} (hn : L.length = n) (hj : j ≤ n) : ((L.take j).drop i).length = j - i := by
  rw [List.length_drop, List.length_take]
  omega
section
variable {post : St1 → Prop} {n p g c m i j : Nat} {cc fl hd bg : Int32} {a1 a2 a3 a4 a5 : Nat → Int32} {L S : List Int32} {R : List (Nat × Int32)}
theorem sx_moveFlag {nn gg p0 p1 : Int32} (H : ∀ fl', post (nn, gg, cc, fl', hd, bg, a1, a2, a3, a4, a5)) : wpX_moveFlag post (nn, gg, cc, fl, hd, bg, a1, a2, a3, a4, a5) p0 p1 :=
  br_c (fun _ => H _) (fun _ => nm_e (H _))
theorem sx_ins3 {x s : Int32} {k : Nat} (hS : sx_S a2 a3 c S) (hn : L.length = n) (hSn : S.length = n) (hp : p ≤ n) (h64 : n + k ≤ 64)
    (H : ∀ g' c' fl' bg' a a' b', sx_L a g' (L.take p ++ List.replicate k x ++ L.drop p) → sx_S a' b' c' (S.take p ++ List.replicate k s ++ S.drop p) → post (nI (n + k), nI g', nI c', fl', hd, bg', a, a', b', a4, a5)) :
    ∀ (d m g : Nat) (a1 : Nat → Int32), m + d = k → sx_L a1 g (L.take p ++ List.replicate m x ++ L.drop p) → wX_insert_3 post (nI p) x (nI k) s (d + 1) (nI m) (nI (n + m)) (nI g) (nI c) fl hd bg a1 a2 a3 a4 a5
  | 0, m, g, a1, h, hl => by
    obtain rfl : m = k := by omega
    refine pk_le m m (fun _ => ?_) (fun z => absurd z (by omega))
    refine sx_putStyles hS (by omega) (by omega) (fun a b c' bg' h => ?_)
    exact sx_moveFlag (fun fl' => H _ _ _ _ _ _ _ hl h)
  | d + 1, m, g, a1, h, hl => by
    refine pk_le k m (fun z => absurd z (by omega)) (fun _ => ?_)
    refine sx_putLetter (sx_inl hn hp List.length_replicate) (by omega) (by omega) hl (fun a ha => nm_r (nI_1 m) (sx_ins3 hS hn hSn hp h64 H d (m + 1) _ a (by omega) ?_))
    rw [List.append_assoc, List.take_left' (sx_tk hn hp), List.drop_left' (sx_tk hn hp)] at ha
    rw [List.replicate_succ, List.append_assoc, List.cons_append]
    exact ha
theorem sx_insert {x s : Int32} {k : Nat} (hl : sx_L a1 g L) (hS : sx_S a2 a3 c S) (hn : L.length = n) (hSn : S.length = n) (hp : p ≤ n) (h64 : n + k ≤ 64)
    (H : ∀ g' c' fl' bg' a a' b', sx_L a g' (L.take p ++ List.replicate k x ++ L.drop p) → sx_S a' b' c' (S.take p ++ List.replicate k s ++ S.drop p) → post (nI (n + k), nI g', nI c', fl', hd, bg', a, a', b', a4, a5)) :
    wpX_insert post (nI n, nI g, nI c, fl, hd, bg, a1, a2, a3, a4, a5) (nI p) x (nI k) s :=
  ⟨k + 1, sx_ins3 hS hn hSn hp h64 H k 0 g a1 (by omega) (by simpa using hl)⟩
theorem sx_delete (hl : sx_L a1 g L) (hS : sx_S a2 a3 c S) (hn : L.length = n) (hSn : S.length = n) (h64 : n ≤ 64) (hi : i ≤ j) (hj : j ≤ n)
    (H : ∀ g' c' fl' bg' a a' b', sx_L a g' (L.take i ++ L.drop j) → sx_S a' b' c' (S.take i ++ S.drop j) → post (nI (n - (j - i)), nI g', nI c', fl', hd, bg', a, a', b', a4, a5)) :
    wpX_delete post (nI n, nI g, nI c, fl, hd, bg, a1, a2, a3, a4, a5) (nI i) (nI j) := by
  unfold wpX_delete
  dsimp only
  refine sx_dropLetters hn h64 hi hj hl (fun a ha => ?_)
  dsimp only
  refine sx_dropStyles hS hi (by omega) (by omega) (fun a' b' c' bg' h => ?_)
  exact br_c (fun _ => br_c (fun _ => H _ _ _ _ _ _ _ ha h) (fun _ => H _ _ _ _ _ _ _ ha h)) (fun _ => nm_e (H _ _ _ _ _ _ _ ha h))
theorem sx_hold83 {J : Int32 → Int32 → Int32 → (Nat → Int32) → (Nat → Int32) → (Nat → Int32) → (Nat → Int32) → (Nat → Int32) → Prop} {k r : Nat} {x4 : Int32} (hl : sx_L a1 g L) (hn : L.length = n) (h64 : n ≤ 64) (hq : i + k < n) (hr : r < 68)
    (H : J (nI r) x4 (nI (k + 1)) a1 a2 a3 (upd a4 k (L.getD (i + k) 0)) (upd a5 k (a3 r))) : wX_hold_83 post J (nI i) (nI r) x4 (nI k) (nI n) (nI g) cc fl hd bg a1 a2 a3 a4 a5 := by
  unfold wX_hold_83
  rw [show nI i + nI k = nI (i + k) from nI_add i k]
  have hg : g ≤ n := hn ▸ sx_L_len hl
  have hx := sx_ix_lt hg h64 hq
  refine sx_cellOf hg h64 hq ⟨pk_in (sx_ix g n (i + k)) 64 hx, pk_in k 64 (by omega), nm_r ?_ ⟨pk_in r 68 hr, pk_in k 64 (by omega), nm_r (by rw [nI_clamp (by omega), nI_clamp (by omega)]) (nm_r (nI_1 k) H)⟩⟩
  rw [nI_clamp (by omega), nI_clamp (by omega)]
  refine congrArg _ ?_
  have := sx_L_get hl (by omega) (q := i + k) (by omega)
  rwa [hn] at this
theorem sx_hold41 (hl : sx_L a1 g L) (hn : L.length = n) (h64 : n ≤ 64) (hr : sx_rn a2 a3 0 R) (hpos : sx_pos R) (hc : R.length = c) (hR : sx_ex R = S) (hSn : S.length = n) (him : i + m ≤ n)
    (H : ∀ a b, (∀ q, q < m → a q = L.getD (i + q) 0 ∧ b q = S.getD (i + q) 0) → post (nI n, nI g, nI c, fl, nI m, bg, a1, a2, a3, a, b)) :
    ∀ (d k : Nat) (A : List (Nat × Int32)) (x : Nat × Int32) (M : List (Nat × Int32)) (b4 b5 : Nat → Int32), k + d = m → R = A ++ x :: M → sx_tot A ≤ i + k → i + k ≤ sx_tot A + x.1 → (∀ q, q < k → b4 q = L.getD (i + q) 0 ∧ b5 q = S.getD (i + q) 0) →
      wX_hold_41 post (nI i) (nI n) (nI g) (nI c) fl (nI m) bg (d + 1) (nI A.length) (nI (sx_tot A + x.1)) (nI k) a1 a2 a3 b4 b5
  | 0, k, A, x, M, b4, b5, h, e, h1, h2, h3 => by
    obtain rfl : k = m := by omega
    exact pk_le k k (fun _ => H b4 b5 h3) (fun z => absurd z (by omega))
  | d + 1, k, A, x, M, b4, b5, h, e, h1, h2, h3 => by
    have hT : sx_tot A + (x.1 + sx_tot M) = n := by
      rw [← hSn, ← hR, sx_ex_len, e, sx_tot_app]
      rfl
    have hlen : A.length + (M.length + 1) = c := by
      rw [← hc, e, List.length_append, List.length_cons]
    have hcl : c ≤ n := by
      have := sx_pos_len hpos
      rw [← sx_ex_len, hR] at this
      omega
    have hst : ∀ s, s = S.getD (i + k) 0 → ∀ q, q < k + 1 → upd b4 k (L.getD (i + k) 0) q = L.getD (i + q) 0 ∧ upd b5 k s q = S.getD (i + q) 0 := by
      intro s hs q hq
      by_cases e : q = k
      · subst e
        rw [pk_us, pk_us]
        exact ⟨rfl, hs⟩
      · rw [pk_un e, pk_un e]
        exact h3 q (by omega)
    refine pk_le m k (fun z => absurd z (by omega)) (fun _ => pk_lt (i + k) (sx_tot A + x.1) (fun z => ?_) (fun z => ?_) (nI_add i k) rfl)
    · refine sx_hold83 hl hn h64 (by omega) (by omega) (sx_hold41 hl hn h64 hr hpos hc hR hSn him H d (k + 1) A x M _ _ (by omega) e (by omega) (by omega) (hst _ ?_))
      have hxr : sx_rn a2 a3 0 (A ++ x :: M) := e ▸ hr
      rw [(sx_rn_at hxr).2, ← hR, e, sx_ex_get h1 z]
    · cases M with
      | nil =>
        simp only [sx_tot] at hT
        exact absurd hT (by omega)
      | cons y M =>
        simp only [sx_tot, List.length_cons] at hT hlen
        have e' : R = (A ++ [x]) ++ y :: M := by rw [e]; simp
        have l1 : (A ++ [x]).length = A.length + 1 := by simp
        have l2 : sx_tot (A ++ [x]) = sx_tot A + x.1 := by simp [sx_tot_app, sx_tot]
        have hy := sx_rn_at (e' ▸ hr)
        rw [l1] at hy
        have hyp : 0 < y.1 := by
          have := ((sx_pos_app _ _).mp (e' ▸ hpos)).2
          exact this.1
        have hi1 : (nI (A.length + 1)).toNatClampNeg = A.length + 1 := nI_clamp (by omega)
        have es : nI (sx_tot A + x.1) + a2 (nI (A.length + 1)).toNatClampNeg = nI (sx_tot A + x.1 + y.1) := by
          rw [hi1, hy.1]
          exact nI_add _ _
        have t := sx_hold41 hl hn h64 hr hpos hc hR hSn him H d (k + 1) (A ++ [x]) y M (upd b4 k (L.getD (i + k) 0)) (upd b5 k (a3 (A.length + 1))) (by omega) e' (by omega) (by omega) (hst _ (by rw [hy.2, ← hR, e', sx_ex_get (by omega) (by omega)]))
        rw [l1, l2] at t
        exact pk_le c (A.length + 1) (fun z => absurd z (by omega)) (fun _ => nm_r (nI_1 _) ⟨pk_in (A.length + 1) 68 (by omega), nm_r es (sx_hold83 hl hn h64 (by omega) (by omega) t)⟩) rfl (nI_1 _)
theorem sx_hold (hl : sx_L a1 g L) (hS : sx_S a2 a3 c S) (hn : L.length = n) (hSn : S.length = n) (h64 : n ≤ 64) (hi : i ≤ j) (hj : j ≤ n)
    (H : ∀ bg' a b, sx_sg a 0 ((L.take j).drop i) → sx_sg b 0 ((S.take j).drop i) → post (nI n, nI g, nI c, fl, nI (j - i), bg', a1, a2, a3, a, b)) :
    wpX_hold post (nI n, nI g, nI c, fl, hd, bg, a1, a2, a3, a4, a5) (nI i) (nI j) := by
  obtain ⟨R, hr, hcan, hR, hc⟩ := hS
  have hpos := sx_can_pos hcan
  have hT : sx_tot R = n := by rw [← hSn, ← hR, sx_ex_len]
  have hcl : c ≤ n := by
    have := sx_pos_len hpos
    omega
  have H' : ∀ bg' a b, (∀ q, q < j - i → a q = L.getD (i + q) 0 ∧ b q = S.getD (i + q) 0) → post (nI n, nI g, nI c, fl, nI (j - i), bg', a1, a2, a3, a, b) := by
    intro bg' a b h
    refine H bg' a b (sx_sg_of _ 0 (fun q hq => ?_)) (sx_sg_of _ 0 (fun q hq => ?_))
    · rw [sx_sll hn hj] at hq
      rw [Nat.zero_add, sx_sl hq]
      exact (h q hq).1
    · rw [sx_sll hSn hj] at hq
      rw [Nat.zero_add, sx_sl hq]
      exact (h q hq).2
  refine nm_r (pk_sub hi) ?_
  refine sx_runAt hr hc (by omega) (by omega) (by omega) (fun A M e h1 h2 => ?_)
  dsimp only
  cases M with
  | nil =>
    rw [List.append_nil] at e
    subst e
    have e0 : j - i = 0 := by omega
    refine pk_le c R.length (fun _ => nm_e ⟨1, ?_⟩) (fun z => absurd z (by omega))
    refine pk_le (j - i) 0 (fun _ => H' _ _ _ (fun q hq => absurd hq (by omega))) (fun z => absurd z (by omega))
  | cons x M =>
    have hlen : A.length + (M.length + 1) = c := by
      rw [← hc, e, List.length_append, List.length_cons]
    have hx := sx_rn_at (e ▸ hr)
    have hxt := h2 x M rfl
    have es : nI (sx_tot A) + a2 (nI A.length).toNatClampNeg = nI (sx_tot A + x.1) := by
      rw [nI_clamp (by omega), hx.1]
      exact nI_add _ _
    refine pk_le c A.length (fun z => absurd z (by omega)) (fun _ => ⟨pk_in A.length 68 (by omega), nm_r es ⟨j - i + 1, ?_⟩⟩)
    exact sx_hold41 hl hn h64 hr hpos hc hR hSn (by omega) (H' _) (j - i) 0 A x M a4 a5 (by omega) e (by omega) (by omega) (fun q hq => absurd hq (by omega))
end
end
section
/-! ===== giving back, moving ===== -/
section
variable {post : St1 → Prop} {n p g c m i j : Nat} {nn gg cc fl hd bg : Int32} {a1 a2 a3 a4 a5 : Nat → Int32} {L S X : List Int32}
theorem sx_sg_at {a : Nat → Int32} {A M : List Int32} {x : Int32} (h : sx_sg a 0 (A ++ x :: M)) : a A.length = x := by
  have := ((sx_sg_app _ _ _).mp h).2
  rw [Nat.zero_add] at this
  exact this.1
theorem sx_gb64 {J : Int32 → Int32 → Int32 → Int32 → Int32 → Int32 → Int32 → Int32 → (Nat → Int32) → (Nat → Int32) → (Nat → Int32) → (Nat → Int32) → (Nat → Int32) → Prop} {Y Z : List Int32} {t : Nat} {v : Int32}
    (hX : sx_sg a5 0 X) (hm : X.length = m) (hp : p ≤ S.length) (h64 : S.length + m ≤ 64) (e : X = Y ++ List.replicate (t + 1) v ++ Z) (hS : sx_S a2 a3 c (S.take p ++ Y ++ S.drop p))
    (H : ∀ c' bg' a b, sx_S a b c' (S.take p ++ (Y ++ List.replicate (t + 1) v) ++ S.drop p) → J (nI (Y.length + (t + 1))) (nI (Y.length + (t + 1) + 1)) nn gg (nI c') fl hd bg' a1 a b a4 a5) :
    wX_giveBack_64 post J (nI p) (nI Y.length) (nI (Y.length + (t + 1))) nn gg (nI c) fl hd bg a1 a2 a3 a4 a5 := by
  have hlen : Y.length + (t + 1) + Z.length = m := by
    rw [← hm, e, List.length_append, List.length_append, List.length_replicate]
  have hv : a5 Y.length = v := by
    rw [e, List.append_assoc, List.replicate_succ, List.cons_append] at hX
    exact sx_sg_at hX
  have hA := sx_at (B := S.drop p) (sx_tk rfl hp) (rfl : Y.length = Y.length)
  unfold wX_giveBack_64
  rw [nI_clamp (show Y.length < 2 ^ 31 by omega), hv, show nI p + nI Y.length = nI (p + Y.length) from nI_add _ _, pk_sub (show Y.length ≤ Y.length + (t + 1) by omega), Nat.add_sub_cancel_left]
  refine ⟨pk_in Y.length 64 (by omega), sx_putStyles hS (by rw [sx_inl rfl hp rfl]; omega) (by rw [sx_inl rfl hp rfl]; omega) (fun a b c' bg' h => nm_r (nI_1 _) (H c' bg' a b ?_))⟩
  rw [hA.1, hA.2] at h
  rw [← List.append_assoc]
  exact h
theorem sx_gb33 (hX : sx_sg a5 0 X) (hm : X.length = m) (hp : p ≤ S.length) (h64 : S.length + m ≤ 64)
    (H : ∀ c' fl' bg' a b, sx_S a b c' (S.take p ++ X ++ S.drop p) → post (nn, gg, nI c', fl', nI m, bg', a1, a, b, a4, a5)) :
    ∀ (Z Y : List Int32) (t : Nat) (v : Int32) (c : Nat) (bg : Int32) (a b : Nat → Int32), X = Y ++ List.replicate (t + 1) v ++ Z → sx_S a b c (S.take p ++ Y ++ S.drop p) →
      wX_giveBack_33 post (nI p) (Z.length + 2) (nI Y.length) (nI (Y.length + (t + 1))) nn gg (nI c) fl (nI m) bg a1 a b a4 a5
  | [], Y, t, v, c, bg, a, b, e, hS => by
    have hlen : Y.length + (t + 1) = m := by
      rw [← hm, e, List.length_append, List.length_append, List.length_replicate]
      rfl
    refine pk_lt m (Y.length + (t + 1)) (fun z => absurd z (by omega)) (fun _ => pk_eq (Y.length + (t + 1)) m (fun _ => ?_) (fun z => absurd hlen z))
    refine sx_gb64 hX hm hp h64 e hS (fun c' bg' a' b' h => ?_)
    refine pk_lt m (Y.length + (t + 1) + 1) (fun _ => sx_moveFlag (fun fl' => H _ _ _ _ _ ?_)) (fun z => absurd z (by omega))
    rw [List.append_nil] at e
    rwa [← e] at h
  | z :: Z, Y, t, v, c, bg, a, b, e, hS => by
    have hlen : Y.length + (t + 1) + (Z.length + 1) = m := by
      rw [← hm, e, List.length_append, List.length_append, List.length_replicate]
      rfl
    have l1 : (Y ++ List.replicate (t + 1) v).length = Y.length + (t + 1) := by rw [List.length_append, List.length_replicate]
    have hz : a5 (Y.length + (t + 1)) = z := by
      have := sx_sg_at (e ▸ hX)
      rwa [l1] at this
    have hv : a5 Y.length = v := by
      have e2 := e
      rw [List.append_assoc, List.replicate_succ, List.cons_append] at e2
      exact sx_sg_at (e2 ▸ hX)
    have ez : a5 (nI (Y.length + (t + 1))).toNatClampNeg = z := by rw [nI_clamp (by omega)]; exact hz
    have ev : a5 (nI Y.length).toNatClampNeg = v := by rw [nI_clamp (by omega)]; exact hv
    refine pk_lt m (Y.length + (t + 1)) (fun z => absurd z (by omega)) (fun _ => pk_eq (Y.length + (t + 1)) m (fun z => absurd z (by omega)) (fun _ => ⟨pk_in (Y.length + (t + 1)) 64 (by omega), pk_in Y.length 64 (by omega), ?_⟩))
    by_cases hzv : z = v
    · subst hzv
      refine br_t (ez.trans ev.symm) (nm_r (nI_1 _) (sx_gb33 hX hm hp h64 H Z Y (t + 1) z c bg a b ?_ hS))
      rw [e, List.replicate_succ' (n := t + 1)]
      simp
    · refine br_f (fun q => hzv (ez.symm.trans (q.trans ev))) (sx_gb64 hX hm hp h64 e hS (fun c' bg' a' b' h => ?_))
      have t := sx_gb33 hX hm hp h64 H Z (Y ++ List.replicate (t + 1) v) 0 z c' bg' a' b' (by rw [e]; simp) h
      rw [l1] at t
      exact t
theorem sx_gb2 (hX : sx_sg a4 0 X) (hm : X.length = m) (hn : L.length = n) (hp : p ≤ n) (h64 : n + m ≤ 64)
    (K : ∀ g a, sx_L a g (L.take p ++ X ++ L.drop p) → ∃ fu, wX_giveBack_33 post (nI p) fu 0 1 (nI (n + m)) (nI g) cc fl (nI m) bg a a2 a3 a4 a5) :
    ∀ (Z Y : List Int32) (g : Nat) (a : Nat → Int32), X = Y ++ Z → sx_L a g (L.take p ++ Y ++ L.drop p) →
      wX_giveBack_2 post (nI p) (Z.length + 1) (nI Y.length) (nI (n + Y.length)) (nI g) cc fl (nI m) bg a a2 a3 a4 a5
  | [], Y, g, a, e, hl => by
    rw [List.append_nil] at e
    subst e
    refine pk_le m X.length (fun _ => ?_) (fun z => absurd z (by omega))
    rw [hm]
    exact K g a hl
  | z :: Z, Y, g, a, e, hl => by
    have hlen : Y.length + (Z.length + 1) = m := by
      rw [← hm, e, List.length_append, List.length_cons]
    have hz : a4 (nI Y.length).toNatClampNeg = z := by
      rw [nI_clamp (by omega)]
      exact sx_sg_at (e ▸ hX)
    have hA := sx_at (B := L.drop p) (sx_tk hn hp) (rfl : Y.length = Y.length)
    refine pk_le m Y.length (fun z => absurd z (by omega)) (fun _ => ⟨pk_in Y.length 64 (by omega), ?_⟩)
    rw [hz, show nI p + nI Y.length = nI (p + Y.length) from nI_add _ _]
    refine sx_putLetter (sx_inl hn hp rfl) (by omega) (by omega) hl (fun a' ha => nm_r (nI_1 _) ?_)
    rw [hA.1, hA.2] at ha
    have t := sx_gb2 hX hm hn hp h64 K Z (Y ++ [z]) (p + Y.length + 1) a' (by rw [e]; simp) (by simpa using ha)
    rw [List.length_append] at t
    exact t
theorem sx_giveBack {X' : List Int32} (hl : sx_L a1 g L) (hS : sx_S a2 a3 c S) (hX : sx_sg a4 0 X) (hX' : sx_sg a5 0 X') (hm : X.length = m) (hm' : X'.length = m) (hn : L.length = n) (hSn : S.length = n) (hp : p ≤ n) (h64 : n + m ≤ 64)
    (H : ∀ g' c' fl' bg' a a' b', sx_L a g' (L.take p ++ X ++ L.drop p) → sx_S a' b' c' (S.take p ++ X' ++ S.drop p) → post (nI (n + m), nI g', nI c', fl', nI m, bg', a, a', b', a4, a5)) :
    wpX_giveBack post (nI n, nI g, nI c, fl, nI m, bg, a1, a2, a3, a4, a5) (nI p) := by
  refine ⟨X.length + 1, sx_gb2 hX hm hn hp h64 (fun g' a ha => ?_) X [] g a1 rfl (by simpa using hl)⟩
  cases X' with
  | nil =>
    simp only [List.length_nil] at hm'
    subst hm'
    refine ⟨1, pk_lt 0 1 (fun _ => sx_moveFlag (fun fl' => H _ _ _ _ _ _ _ ha ?_)) (fun z => absurd z (by omega))⟩
    simpa using hS
  | cons v Z =>
    exact ⟨Z.length + 2, sx_gb33 hX' hm' (by omega) (by omega) (fun c' fl' bg' a' b' h => H _ _ _ _ _ _ _ ha h) Z [] 0 v c bg a2 a3 (by simp) (by simpa using hS)⟩
theorem sx_bad {post : Int32 → Prop} (h64 : n ≤ 64) (hi : i ≤ j) (hj : j ≤ n) (H : post 0) : wpX_bad post (nI n, gg, cc, fl, hd, bg, a1, a2, a3, a4, a5) (nI i) (nI j) :=
  br_f (nI_pos (by omega)) (br_f (nI_nlt hi (by omega)) (br_t (nI_le hj (by omega)) H))
def sx_mv (i j p : Nat) (l : List Int32) : List Int32 := (l.take i ++ l.drop j).take p ++ (l.take j).drop i ++ (l.take i ++ l.drop j).drop p
theorem sx_dl {l : List Int32} (hn : l.length = n) (hi : i ≤ j) (hj : j ≤ n) : (l.take i ++ l.drop j).length = n - (j - i) := by
  rw [List.length_append, List.length_take, List.length_drop]
  omega
theorem sx_move {post : Int32 → St1 → Prop} (hl : sx_L a1 g L) (hS : sx_S a2 a3 c S) (hn : L.length = n) (hSn : S.length = n) (h64 : n ≤ 64) (hi : i ≤ j) (hj : j ≤ n) (hp : p ≤ n - (j - i))
    (H : ∀ g' c' fl' hd' bg' a a' b' a4' a5', sx_L a g' (sx_mv i j p L) → sx_S a' b' c' (sx_mv i j p S) → post 0 (nI n, nI g', nI c', fl', hd', bg', a, a', b', a4', a5')) :
    wpX_move post (nI n, nI g, nI c, fl, hd, bg, a1, a2, a3, a4, a5) (nI i) (nI j) (nI p) := by
  unfold wpX_move
  dsimp only
  refine sx_bad h64 hi hj (br_t rfl (br_f (nI_pos (by omega)) (br_t ?_ ?_)))
  · rw [pk_sub hi, pk_sub (by omega)]
    exact nI_le hp (by omega)
  · refine sx_hold hl hS hn hSn h64 hi hj (fun bg' a b ha hb => ?_)
    dsimp only
    refine sx_delete hl hS hn hSn h64 hi hj (fun g' c' fl' bg'' a' b' c'' hl' hS' => ?_)
    dsimp only
    refine sx_giveBack hl' hS' ha hb (sx_sll hn hj) (sx_sll hSn hj) (sx_dl hn hi hj) (sx_dl hSn hi hj) hp (by omega) (fun g2 c2 fl2 bg2 a2 a2' b2' h1 h2 => ?_)
    have t := H g2 c2 fl2 (nI (j - i)) bg2 a2 a2' b2' a b h1 h2
    rw [← show n - (j - i) + (j - i) = n by omega] at t
    exact t
end
end
section
/-! ===== style, toggle, replace ===== -/
def sx_bits (mask : Int32) : Int32 := if mask < 8 then mask &&& 7 else (mask &&& 7) ||| 56
def sx_mix (mask s old : Int32) : Int32 := (old &&& (sx_bits mask ^^^ (-1))) ||| (s &&& sx_bits mask)
/-- what toggle's loop finds -/
def sx_tg (bit : Int32) (j : Nat) : List (Nat × Int32) → Nat → Int32 → Int32
  | [], _, y => y
  | x :: M, q, y => if j ≤ q then y else sx_tg bit j M (q + x.1) (if y = 0 then 0 else if x.2 &&& bit = 0 then 0 else 1)
section
variable {n g fl hd bg : Int32} {c p r i j : Nat} {a1 a2 a3 a4 a5 : Nat → Int32} {R : List (Nat × Int32)} {S : List Int32}
theorem sx_mixed {post : Int32 → Prop} {u : St1} {old mask s : Int32} (H : post (sx_mix mask s old)) : wpX_mixed post u old mask s := by
  obtain ⟨b1, b2, b3, b4, b5, b6, c1, c2, c3, c4, c5⟩ := u
  unfold sx_mix sx_bits at H
  refine nm_e (br_c (fun z => ?_) (fun z => nm_e ?_))
  · rw [if_pos z] at H
    exact H
  · rw [if_neg z] at H
    exact H
theorem sx_st62 {post : Int32 → St1 → Prop} {B : List (Nat × Int32)} {S' : List Int32} {mask s : Int32} (hj : j ≤ 64) (h64 : c ≤ 64)
    (H : ∀ r a b c', sx_S a b c' S' → post r (n, g, nI c', fl, hd, bg, a1, a, b, a4, a5)) :
    ∀ (M A : List (Nat × Int32)) (k q : Nat) (x6 : Int32) (b : Nat → Int32), sx_pos (A ++ (M ++ B)) → q + sx_tot M = j → k + sx_tot M ≤ 64 → sx_ex A ++ ((sx_ex M).map (sx_mix mask s) ++ sx_ex B) = S' → sx_rn a2 b 0 (A ++ (M ++ B)) → (A ++ (M ++ B)).length = c →
      wX_style_62 post (nI j) mask s n g (nI c) fl hd bg (M.length + 1) (nI A.length) x6 (nI q) (nI k) a1 a2 b a4 a5
  | [], A, k, q, x6, b, hpos, hq, hk, hS, hr, hc => by
    have K : wX_style_145 post x6 n g (nI c) fl hd bg a1 a2 b a4 a5 := by
      unfold wX_style_145
      refine sx_joinRuns hr hpos hc h64 (fun a' b' c' h => H x6 a' b' c' ?_)
      rw [sx_ex_app] at h
      rw [← hS]
      exact h
    simp only [sx_tot] at hq
    exact br_c (fun _ => K) (fun _ => br_t (nI_le (by omega) (by omega)) K)
  | x :: M, A, k, q, x6, b, hpos, hq, hk, hS, hr, hc => by
    have hp1 := (sx_pos_app _ _).mp hpos
    have hx0 : 0 < x.1 := hp1.2.1
    simp only [sx_tot] at hq hk
    have hlen : A.length + (M.length + 1 + B.length) = c := by
      rw [← hc]
      simp only [List.length_append, List.length_cons]
    have hx := sx_rn_at (M := M ++ B) hr
    have hi : (nI A.length).toNatClampNeg = A.length := nI_clamp (by omega)
    have ea : nI q + a2 (nI A.length).toNatClampNeg = nI (q + x.1) := by
      rw [hi, hx.1]
      exact nI_add _ _
    have K : ∀ y6, wX_style_115 post (wX_style_62 post (nI j) mask s n g (nI c) fl hd bg (M.length + 1)) (nI j) mask s (nI A.length) y6 (nI q) (nI k) (sx_mix mask s x.2) n g (nI c) fl hd bg a1 a2 b a4 a5 := by
      intro y6
      refine ⟨pk_in A.length 68 (by omega), nm_r (by rw [hi]) ⟨pk_in A.length 68 (by omega), nm_r ea (nm_r (nI_1 _) (nm_r (nI_1 _) ?_))⟩⟩
      have e1 : (A ++ [(x.1, sx_mix mask s x.2)]).length = A.length + 1 := by simp
      have t := sx_st62 (B := B) (mask := mask) (s := s) hj h64 H M (A ++ [(x.1, sx_mix mask s x.2)]) (k + 1) (q + x.1) y6 (upd b A.length (sx_mix mask s x.2)) ?_ (by omega) (by omega) ?_ ?_ ?_
      · rw [e1] at t
        exact t
      · exact (sx_pos_app _ _).mpr ⟨(sx_pos_app _ _).mpr ⟨hp1.1, hx0, trivial⟩, hp1.2.2⟩
      · rw [← hS, sx_ex_app]
        simp only [sx_ex, List.map_append, List.map_replicate, List.append_nil, List.append_assoc]
      · rw [List.append_assoc, List.singleton_append]
        exact sx_rn_putB (M := M ++ B) hr rfl
      · simp only [List.length_append, List.length_cons, List.length_nil]
        omega
    refine pk_le 64 k (fun z => absurd z (by omega)) (fun _ => pk_le j q (fun z => absurd z (by omega)) (fun _ => ⟨pk_in A.length 68 (by omega), ?_⟩))
    rw [hi, hx.2]
    refine sx_mixed ⟨pk_in A.length 68 (by omega), br_c (fun _ => K _) (fun _ => ⟨pk_in A.length 68 (by omega), nm_e (K _)⟩)⟩
def sx_stl (i j : Nat) (mask s : Int32) (S : List Int32) : List Int32 := S.take i ++ (((S.take j).drop i).map (sx_mix mask s) ++ S.drop j)
theorem sx_style {post : Int32 → St1 → Prop} {n mk sv : Nat} (hS : sx_S a2 a3 c S) (hSn : S.length = n) (h64 : n ≤ 64) (hi : i ≤ j) (hj : j ≤ n) (hm : mk ≤ 15) (hs : sv ≤ 63)
    (H : ∀ r c' bg' a b, sx_S a b c' (sx_stl i j (nI mk) (nI sv) S) → post r (nI n, g, nI c', fl, hd, bg', a1, a, b, a4, a5)) :
    wpX_style post (nI n, g, nI c, fl, hd, bg, a1, a2, a3, a4, a5) (nI i) (nI j) (nI mk) (nI sv) := by
  unfold wpX_style
  dsimp only
  refine sx_bad h64 hi hj (br_t rfl (br_f (nI_pos (by omega)) (br_f (nI_nlt (a := 15) hm (by omega)) (br_f (nI_pos (by omega)) (br_t (nI_le (b := 63) hs (by omega)) (pk_eq i j (fun e => H _ _ _ _ _ ?_) (fun e => ?_)))))))
  · subst e
    unfold sx_stl
    rw [List.drop_of_length_le (by rw [List.length_take]; omega)]
    simpa using hS
  · refine sx_cut2 (post := fun r u => match u with | (f0_n, f0_gap, f0_count, f0_flagAt, f0_held, f0_begun, a1, a2, a3, a4, a5) => ∃ fu62 : Nat, wX_style_62 post (nI j) (nI mk) (nI sv) f0_n f0_gap f0_count f0_flagAt f0_held f0_begun fu62 r 0 (nI i) 0 a1 a2 a3 a4 a5) hS hi (by omega) (by omega) (fun A M B a b c' bg' h1 h2 h3 h4 h5 h6 h7 h8 h9 => ?_)
    refine ⟨M.length + 1, sx_st62 (by omega) h9 (fun r a b c' h => H r c' bg' a b h) M A 0 i 0 b h1 (by omega) (by omega) ?_ h7 h8⟩
    unfold sx_stl
    rw [h4, h5, h6]
theorem sx_tg52 {post : Int32 → St1 → Prop} {n : Nat} {bit x1 : Int32} (hr : sx_rn a2 a3 0 R) (ht : sx_tot R = n) (h64 : n ≤ 64) (hj : j ≤ n) (hcl : R.length ≤ 64) :
    ∀ (M A : List (Nat × Int32)) (k : Nat) (x6 : Int32), R = A ++ M → k + M.length ≤ 64 →
      wX_toggle_110 post x1 (nI j) bit (sx_tg bit j M (sx_tot A) x6) (nI n) g (nI c) fl hd bg a1 a2 a3 a4 a5 →
      wX_toggle_52 post x1 (nI j) bit (nI n) g (nI c) fl hd bg a1 a2 a3 a4 a5 (M.length + 1) (nI A.length) (nI (sx_tot A)) x6 (nI k)
  | [], A, k, x6, e, hk, H => by
    rw [List.append_nil] at e
    subst e
    exact br_c (fun _ => H) (fun _ => br_t (nI_le (by omega) (by omega)) H)
  | x :: M, A, k, x6, e, hk, H => by
    simp only [List.length_cons] at hk
    have hT : sx_tot A + (x.1 + sx_tot M) = n := by
      rw [← ht, e, sx_tot_app]
      rfl
    have hlen : A.length + (M.length + 1) ≤ 64 := by
      rw [e, List.length_append, List.length_cons] at hcl
      exact hcl
    have hx := sx_rn_at (e ▸ hr)
    have hi : (nI A.length).toNatClampNeg = A.length := nI_clamp (by omega)
    have ea : nI (sx_tot A) + a2 (nI A.length).toNatClampNeg = nI (sx_tot A + x.1) := by
      rw [hi, hx.1]
      exact nI_add _ _
    simp only [sx_tg] at H
    refine pk_le 64 k (fun z => absurd z (by omega)) (fun _ => pk_le j (sx_tot A) (fun z => ?_) (fun z => ?_))
    · rwa [if_pos z] at H
    · rw [if_neg (by omega)] at H
      have l1 : (A ++ [x]).length = A.length + 1 := by simp
      have l2 : sx_tot (A ++ [x]) = sx_tot A + x.1 := by simp [sx_tot_app, sx_tot]
      have t := fun y6 => sx_tg52 (post := post) (x1 := x1) (bit := bit) hr ht h64 hj hcl M (A ++ [x]) (k + 1) y6 (by rw [e]; simp) (by omega)
      rw [l1, l2] at t
      have K : ∀ y6, wX_toggle_110 post x1 (nI j) bit (sx_tg bit j M (sx_tot A + x.1) y6) (nI n) g (nI c) fl hd bg a1 a2 a3 a4 a5 → wX_toggle_87 post (wX_toggle_52 post x1 (nI j) bit (nI n) g (nI c) fl hd bg a1 a2 a3 a4 a5 (M.length + 1)) x1 (nI j) bit (nI A.length) (nI (sx_tot A)) (nI k) y6 (nI n) g (nI c) fl hd bg a1 a2 a3 a4 a5 :=
        fun y6 h => ⟨pk_in A.length 68 (by omega), nm_r ea (nm_r (nI_1 _) (nm_r (nI_1 _) (t y6 h)))⟩
      refine br_c (fun z0 => K 0 ?_) (fun z0 => ⟨pk_in A.length 68 (by omega), br_c (fun z1 => K 0 ?_) (fun z1 => K 1 ?_)⟩)
      · rwa [if_pos z0] at H
      · rw [hi, hx.2] at z1
        rwa [if_neg z0, if_pos z1] at H
      · rw [hi, hx.2] at z1
        rwa [if_neg z0, if_neg z1] at H
end
end
section
/-! ===== the whole state; each call of a turn ===== -/
def sx_nn (S : List Int32) : Prop := ∀ s, s ∈ S → ¬ s < 0
def sx_M (L S : List Int32) (u : St1) : Prop :=
  ∃ (g c : Nat) (fl hd bg : Int32) (a1 a2 a3 a4 a5 : Nat → Int32), u = (nI L.length, nI g, nI c, fl, hd, bg, a1, a2, a3, a4, a5) ∧ L.length ≤ 64 ∧ S.length = L.length ∧ sx_L a1 g L ∧ sx_S a2 a3 c S ∧ sx_nn S
def sx_T (L S : List Int32) (W : (Int32 → St1 → Prop) → St1 → Prop) : Prop :=
  ∃ L' S', ∀ (post : Int32 → St1 → Prop) (u : St1), sx_M L S u → (∀ r u', sx_M L' S' u' → post r u') → W post u
theorem sx_M_mk {L S : List Int32} {n g c : Nat} {fl hd bg : Int32} {a1 a2 a3 a4 a5 : Nat → Int32} (hn : L.length = n) (h64 : n ≤ 64) (hSn : S.length = n) (hl : sx_L a1 g L) (hS : sx_S a2 a3 c S) (h0 : sx_nn S) : sx_M L S (nI n, nI g, nI c, fl, hd, bg, a1, a2, a3, a4, a5) :=
  ⟨g, c, fl, hd, bg, a1, a2, a3, a4, a5, by rw [hn], by omega, by omega, hl, hS, h0⟩
theorem sx_nn_td {S : List Int32} (h : sx_nn S) (i j : Nat) : sx_nn (S.take i) ∧ sx_nn (S.drop j) :=
  ⟨fun s hs => h s (List.mem_of_mem_take hs), fun s hs => h s (List.mem_of_mem_drop hs)⟩
theorem sx_nn_app {A B : List Int32} (h : sx_nn A) (h' : sx_nn B) : sx_nn (A ++ B) := fun s hs => by
  rcases List.mem_append.mp hs with z | z
  · exact h s z
  · exact h' s z
theorem sx_nn_rep {k : Nat} {v : Int32} (h : ¬ v < 0) : sx_nn (List.replicate k v) := fun s hs => by
  rw [(List.mem_replicate.mp hs).2]
  exact h
theorem sx_nn_get {S : List Int32} (h : sx_nn S) (q : Nat) : ¬ S.getD q 0 < 0 := by
  by_cases hq : q < S.length
  · rw [List.getD_eq_getElem?_getD, List.getElem?_eq_getElem hq]
    exact h _ (List.getElem_mem hq)
  · rw [List.getD_eq_getElem?_getD, List.getElem?_eq_none (by omega)]
    decide
theorem sx_msb (x : Int32) : x < 0 ↔ x.toBitVec.msb = true := by
  rw [Int32.lt_iff_toInt_lt, BitVec.msb_eq_toInt, decide_eq_true_iff, show (0 : Int32).toInt = 0 by decide]
  exact Iff.rfl
theorem sx_mix_nn {mask s old : Int32} (h1 : ¬ old < 0) (h2 : ¬ s < 0) : ¬ sx_mix mask s old < 0 := by
  rw [sx_msb] at *
  unfold sx_mix
  rw [Int32.toBitVec_or, BitVec.msb_or, Int32.toBitVec_and, BitVec.msb_and, Int32.toBitVec_and, BitVec.msb_and]
  cases e1 : old.toBitVec.msb
  · cases e2 : s.toBitVec.msb
    · simp
    · exact absurd e2 h2
  · exact absurd e1 h1
theorem sx_stl_nn {S : List Int32} {i j : Nat} {mask s : Int32} (h : sx_nn S) (hs : ¬ s < 0) : sx_nn (sx_stl i j mask s S) := by
  refine sx_nn_app (sx_nn_td h i i).1 (sx_nn_app (fun v hv => ?_) (sx_nn_td h j j).2)
  obtain ⟨w, hw, rfl⟩ := List.mem_map.mp hv
  exact sx_mix_nn (h w (List.mem_of_mem_take (List.mem_of_mem_drop hw))) hs
theorem sx_stl_len {S : List Int32} {i j n : Nat} {mask s : Int32} (hn : S.length = n) (hi : i ≤ j) (hj : j ≤ n) : (sx_stl i j mask s S).length = n := by
  unfold sx_stl
  simp only [List.length_append, List.length_map, List.length_drop, List.length_take]
  omega
theorem sx_mv_nn {S : List Int32} {i j p : Nat} (h : sx_nn S) : sx_nn (sx_mv i j p S) := by
  have h2 := sx_nn_app (sx_nn_td h i j).1 (sx_nn_td h i j).2
  exact sx_nn_app (sx_nn_app (sx_nn_td h2 p p).1 (sx_nn_td (sx_nn_td h j j).1 i i).2) (sx_nn_td h2 p p).2
theorem sx_mv_len {l : List Int32} {i j p n : Nat} (hn : l.length = n) (hi : i ≤ j) (hj : j ≤ n) (hp : p ≤ n - (j - i)) : (sx_mv i j p l).length = n := by
  unfold sx_mv
  rw [sx_inl (sx_dl hn hi hj) hp (sx_sll hn hj)]
  omega
theorem sx_split_uniq {A M A' M' : List (Nat × Int32)} {p : Nat} (e : A ++ M = A' ++ M') (h1 : sx_tot A ≤ p) (h2 : ∀ x N, M = x :: N → p < sx_tot A + x.1) (h1' : sx_tot A' ≤ p) (h2' : ∀ x N, M' = x :: N → p < sx_tot A' + x.1) : A = A' ∧ M = M' := by
  rcases List.append_eq_append_iff.mp e with ⟨W, e1, e2⟩ | ⟨W, e1, e2⟩
  · cases W with
    | nil => exact ⟨by simpa using e1.symm, by simpa using e2⟩
    | cons x W =>
      have := h2 x (W ++ M') (by simpa using e2)
      rw [e1, sx_tot_app] at h1'
      simp only [sx_tot] at h1'
      exact absurd this (by omega)
  · cases W with
    | nil => exact ⟨by simpa using e1, by simpa using e2.symm⟩
    | cons x W =>
      have := h2' x (W ++ M) (by simpa using e2)
      rw [e1, sx_tot_app] at h1
      simp only [sx_tot] at h1
      exact absurd this (by omega)
/-- what toggle finds over the styles S -/
def sx_all (S : List Int32) (i j : Nat) (bit y : Int32) : Prop :=
  ∃ R A M, sx_can R ∧ sx_ex R = S ∧ R = A ++ M ∧ sx_tot A ≤ i ∧ (∀ x N, M = x :: N → i < sx_tot A + x.1) ∧ y = sx_tg bit j M (sx_tot A) 1
theorem sx_all_uniq {S : List Int32} {i j : Nat} {bit y y' : Int32} (h : sx_all S i j bit y) (h' : sx_all S i j bit y') : y = y' := by
  obtain ⟨R, A, M, k1, k2, k3, k4, k5, rfl⟩ := h
  obtain ⟨R', A', M', l1, l2, l3, l4, l5, rfl⟩ := h'
  have e := sx_uniq R R' k1 l1 (k2.trans l2.symm)
  obtain ⟨rfl, rfl⟩ := sx_split_uniq (k3.symm.trans (e.trans l3)) k4 k5 l4 l5
  rfl
section
variable {n g c p q i j : Nat} {nn gg cc fl hd bg : Int32} {a1 a2 a3 a4 a5 : Nat → Int32} {L S : List Int32}
theorem sx_runAtS {post : Int32 → St1 → Prop} (hS : sx_S a2 a3 c S) (hSn : S.length = n) (h64 : n ≤ 64) (hq : q < n) (H : ∀ r bg', r < c → c ≤ 64 → a3 r = S.getD q 0 → post (nI r) (nn, gg, nI c, fl, hd, bg', a1, a2, a3, a4, a5)) :
    wpX_runAt post (nn, gg, nI c, fl, hd, bg, a1, a2, a3, a4, a5) (nI q) := by
  obtain ⟨R, hr, hcan, hR, hc⟩ := hS
  have hpos := sx_can_pos hcan
  have hT : sx_tot R = n := by rw [← hSn, ← hR, sx_ex_len]
  have hcl : c ≤ 64 := by have := sx_pos_len hpos; omega
  refine sx_runAt hr hc hcl (by omega) (by omega) (fun A M e h1 h2 => ?_)
  cases M with
  | nil =>
    rw [List.append_nil] at e
    subst e
    exact absurd h1 (by omega)
  | cons x M =>
    refine H _ _ (by rw [← hc, e, List.length_append, List.length_cons]; omega) hcl ?_
    have hr' : sx_rn a2 a3 0 (A ++ x :: M) := e ▸ hr
    rw [(sx_rn_at hr').2, ← hR, e, sx_ex_get h1 (h2 x M rfl)]
theorem sx_styleHere {post : Int32 → St1 → Prop} (hS : sx_S a2 a3 c S) (hSn : S.length = n) (h64 : n ≤ 64) (hq : q < n) (H : ∀ bg', post (S.getD q 0) (nn, gg, nI c, fl, hd, bg', a1, a2, a3, a4, a5)) :
    wpX_styleHere post (nn, gg, nI c, fl, hd, bg, a1, a2, a3, a4, a5) (nI q) := by
  unfold wpX_styleHere
  dsimp only
  refine sx_runAtS hS hSn h64 hq (fun r bg' hr hc e => ⟨pk_in r 68 (by omega), ?_⟩)
  dsimp only
  rw [nI_clamp (by omega), e]
  exact H bg'
theorem sx_badLetter {post : Int32 → Prop} {u : St1} {x : Nat} (hx : x ≤ 25) (H : post 0) : wpX_badLetter post u (nI x) := by
  obtain ⟨b1, b2, b3, b4, b5, b6, c1, c2, c3, c4, c5⟩ := u
  exact br_f (nI_pos (by omega)) (br_t (nI_le (b := 25) hx (by omega)) H)
theorem sx_toggle {post : Int32 → St1 → Prop} {b : Nat} (hS : sx_S a2 a3 c S) (hSn : S.length = n) (h64 : n ≤ 64) (hi : i < j) (hj : j ≤ n) (hb : b = 1 ∨ b = 2 ∨ b = 4)
    (H : ∀ y, sx_all S i j (nI b) y → ∀ r c' bg' a b', sx_S a b' c' (if y = 0 then sx_stl i j (nI b) (nI b) S else sx_stl i j (nI b) (nI 0) S) → post r (nI n, gg, nI c', fl, hd, bg', a1, a, b', a4, a5)) :
    wpX_toggle post (nI n, gg, nI c, fl, hd, bg, a1, a2, a3, a4, a5) (nI i) (nI j) (nI b) := by
  have K : wX_toggle_26 post (nI i) (nI j) (nI b) (nI n) gg (nI c) fl hd bg a1 a2 a3 a4 a5 := by
    refine pk_eq i j (fun z => absurd z (by omega)) (fun _ => ?_)
    obtain ⟨R, hr, hcan, hR, hc⟩ := id hS
    have hpos := sx_can_pos hcan
    have hT : sx_tot R = n := by rw [← hSn, ← hR, sx_ex_len]
    have hcl : c ≤ 64 := by have := sx_pos_len hpos; omega
    refine sx_runAt hr hc hcl (by omega) (by omega) (fun A M e h1 h2 => ?_)
    have hal : sx_all S i j (nI b) (sx_tg (nI b) j M (sx_tot A) 1) := ⟨R, A, M, hcan, hR, e, h1, h2, rfl⟩
    refine ⟨M.length + 1, sx_tg52 hr hT h64 hj (by omega) M A 0 1 e (by rw [e, List.length_append] at hc; omega) ?_⟩
    refine br_c (fun z => ?_) (fun z => ?_)
    · refine sx_style hS hSn h64 (by omega) hj (by omega) (by omega) (fun r c' bg' a b' h => ?_)
      refine br_t z (H _ hal 1 c' bg' a b' ?_)
      rwa [if_pos z]
    · refine sx_style (sv := 0) hS hSn h64 (by omega) hj (by omega) (by omega) (fun r c' bg' a b' h => ?_)
      refine br_f z (H _ hal 0 c' bg' a b' ?_)
      rwa [if_neg z]
  unfold wpX_toggle
  dsimp only
  refine sx_bad h64 (by omega) hj (br_t rfl ?_)
  rcases hb with rfl | rfl | rfl
  · exact br_t rfl K
  · exact br_f (by decide) (br_t rfl K)
  · exact br_f (by decide) (br_f (by decide) (br_t rfl K))
theorem sx_rp23 {post : Int32 → St1 → Prop} {x y : Int32} (h64 : n ≤ 64) (hg : g ≤ n) (H : ∀ r a, sx_L a g (L.map (fun v => if v = x then y else v)) → post r (nI n, nI g, cc, fl, hd, bg, a, a2, a3, a4, a5)) :
    ∀ (Z Y : List Int32) (x3 : Int32) (a : Nat → Int32), Y.length + Z.length = n → L.map (fun v => if v = x then y else v) = Y ++ Z.map (fun v => if v = x then y else v) → sx_L a g (Y ++ Z) →
      wX_replace_23 post x y (nI n) (nI g) cc fl hd bg (Z.length + 1) x3 (nI Y.length) a a2 a3 a4 a5
  | [], Y, x3, a, hn, e, hl => by
    simp only [List.length_nil] at hn
    refine pk_le n Y.length (fun _ => H x3 a ?_) (fun z => absurd z (by omega))
    rw [e]
    exact hl
  | z :: Z, Y, x3, a, hn, e, hl => by
    simp only [List.length_cons] at hn
    have hn' : (Y ++ z :: Z).length = n := by rw [List.length_append, List.length_cons]; omega
    have hix := sx_ix_lt hg h64 (show Y.length < n by omega)
    have hi : (nI (sx_ix g n Y.length)).toNatClampNeg = sx_ix g n Y.length := nI_clamp (by omega)
    have hv : a (nI (sx_ix g n Y.length)).toNatClampNeg = z := by
      rw [hi]
      have := sx_L_get hl (by omega) (q := Y.length) (by omega)
      rw [hn'] at this
      rw [this, sx_gd_r (Nat.le_refl _), Nat.sub_self]
      rfl
    have t := fun w y3 a' => sx_rp23 h64 hg H Z (Y ++ [w]) y3 a' (by rw [List.length_append, List.length_singleton]; omega)
    refine pk_le n Y.length (fun z => absurd z (by omega)) (fun _ => sx_cellOf hg h64 (by omega) ⟨pk_in (sx_ix g n Y.length) 64 hix, ?_⟩)
    by_cases hz : z = x
    · refine br_t (hv.trans hz) ⟨pk_in (sx_ix g n Y.length) 64 hix, nm_r (by rw [hi]) (nm_e (nm_r (nI_1 _) ?_))⟩
      have t' := t y (x3 + 1) (upd a (sx_ix g n Y.length) y) (by rw [e, List.map_cons, if_pos hz]; simp) ?_
      · rw [List.length_append, List.length_singleton] at t'
        exact t'
      · have := sx_L_set (d := y) hl (by omega) (q := Y.length) (by omega)
        rw [hn', List.set_append, if_neg (by omega), Nat.sub_self] at this
        rw [List.append_assoc]
        exact this
    · refine br_f (fun q => hz (hv.symm.trans q)) (nm_r (nI_1 _) ?_)
      have t' := t z x3 a (by rw [e, List.map_cons, if_neg hz]; simp) (by rw [List.append_assoc]; exact hl)
      rw [List.length_append, List.length_singleton] at t'
      exact t'
theorem sx_T_type {x : Nat} (hp : p ≤ L.length) (hx : x ≤ 25) : sx_T L S (fun post u => wpX_type post u (nI p) (nI x)) := by
  by_cases hf : L.length = 64
  · refine ⟨L, S, fun post u hu H => ?_⟩
    obtain ⟨g, c, fl, hd, bg, a1, a2, a3, a4, a5, rfl, h64, hSn, hl, hS, h0⟩ := id hu
    unfold wpX_type
    dsimp only
    refine sx_badLetter hx (br_t rfl (br_f (nI_pos (by omega)) (br_t (nI_le hp (by omega)) (br_t (by rw [hf]; rfl) (H _ _ hu)))))
  · refine ⟨L.take p ++ List.replicate 1 (nI x) ++ L.drop p, S.take p ++ List.replicate 1 (if L.length = 0 then 0 else S.getD (p - 1) 0) ++ S.drop p, fun post u hu H => ?_⟩
    obtain ⟨g, c, fl, hd, bg, a1, a2, a3, a4, a5, rfl, h64, hSn, hl, hS, h0⟩ := id hu
    unfold wpX_type
    dsimp only
    have K : ∀ (s bg' : Int32), s = (if L.length = 0 then 0 else S.getD (p - 1) 0) → wX_type_59 post (nI p) (nI x) s (nI L.length) (nI g) (nI c) fl hd bg' a1 a2 a3 a4 a5 := by
      intro s bg' hs
      refine sx_insert (k := 1) hl hS rfl hSn hp (by omega) (fun g' c' fl' bg' a a' b' k1 k2 => H _ _ (sx_M_mk (sx_inl rfl hp (by simp)) (by omega) (sx_inl hSn hp (by simp)) k1 (hs ▸ k2) ?_))
      refine sx_nn_app (sx_nn_app (sx_nn_td h0 p p).1 (sx_nn_rep ?_)) (sx_nn_td h0 p p).2
      split
      · decide
      · exact sx_nn_get h0 _
    refine sx_badLetter hx (br_t rfl (br_f (nI_pos (by omega)) (br_t (nI_le hp (by omega)) (pk_eq L.length 64 (fun z => absurd z hf) (fun _ => pk_le L.length 0 (fun z => K 0 bg (by rw [if_pos (by omega)])) (fun z => pk_eq p 0 (fun e => ?_) (fun e => ?_)))))))
    · refine sx_styleHere (q := 0) hS hSn h64 (by omega) (fun bg' => K _ bg' ?_)
      rw [if_neg (by omega), e]
    · refine ek_v (P := fun y => wX_type_55 post (nI p) (nI x) y (nI L.length) (nI g) (nI c) fl hd bg a1 a2 a3 a4 a5) (show nI p - 1 = nI (p - 1) from pk_sub (b := 1) (by omega)) ?_
      refine sx_styleHere (q := p - 1) hS hSn h64 (by omega) (fun bg' => K _ bg' ?_)
      rw [if_neg (by omega)]
theorem sx_T_put {x k s : Nat} (hp : p ≤ L.length) (hx : x ≤ 25) (hk : k ≤ 64) (hs : s ≤ 63) : sx_T L S (fun post u => wpX_put post u (nI p) (nI x) (nI k) (nI s)) := by
  by_cases hf : L.length + k ≤ 64
  · refine ⟨L.take p ++ List.replicate k (nI x) ++ L.drop p, S.take p ++ List.replicate k (nI s) ++ S.drop p, fun post u hu H => ?_⟩
    obtain ⟨g, c, fl, hd, bg, a1, a2, a3, a4, a5, rfl, h64, hSn, hl, hS, h0⟩ := id hu
    unfold wpX_put
    dsimp only
    refine sx_badLetter hx (br_t rfl (br_f (nI_pos (by omega)) (br_f (nI_nlt hp (by omega)) (br_f (nI_pos (by omega)) (br_f (nI_nlt (a := 64) hk (by omega)) (br_f (nI_pos (by omega)) (br_t (nI_le (b := 63) hs (by omega)) (br_t (by rw [nI_add]; exact nI_le (b := 64) hf (by omega)) ?_))))))))
    refine sx_insert hl hS rfl hSn hp hf (fun g' c' fl' bg' a a' b' k1 k2 => H _ _ (sx_M_mk (sx_inl rfl hp (by simp)) hf (sx_inl hSn hp (by simp)) k1 k2 ?_))
    exact sx_nn_app (sx_nn_app (sx_nn_td h0 p p).1 (sx_nn_rep (nI_pos (by omega)))) (sx_nn_td h0 p p).2
  · refine ⟨L, S, fun post u hu H => ?_⟩
    obtain ⟨g, c, fl, hd, bg, a1, a2, a3, a4, a5, rfl, h64, hSn, hl, hS, h0⟩ := id hu
    unfold wpX_put
    dsimp only
    exact sx_badLetter hx (br_t rfl (br_f (nI_pos (by omega)) (br_f (nI_nlt hp (by omega)) (br_f (nI_pos (by omega)) (br_f (nI_nlt (a := 64) hk (by omega)) (br_f (nI_pos (by omega)) (br_t (nI_le (b := 63) hs (by omega)) (br_f (by rw [nI_add]; exact nI_ge (a := 64) (by omega) (by omega)) (H _ _ hu)))))))))
theorem sx_T_remove (hi : i ≤ j) (hj : j ≤ L.length) : sx_T L S (fun post u => wpX_remove post u (nI i) (nI j)) := by
  refine ⟨L.take i ++ L.drop j, S.take i ++ S.drop j, fun post u hu H => ?_⟩
  obtain ⟨g, c, fl, hd, bg, a1, a2, a3, a4, a5, rfl, h64, hSn, hl, hS, h0⟩ := id hu
  unfold wpX_remove
  dsimp only
  refine sx_bad h64 hi hj (br_t rfl ?_)
  exact sx_delete hl hS rfl hSn h64 hi hj (fun g' c' fl' bg' a a' b' k1 k2 => H _ _ (sx_M_mk (sx_dl rfl hi hj) (by omega) (sx_dl hSn hi hj) k1 k2 (sx_nn_app (sx_nn_td h0 i i).1 (sx_nn_td h0 j j).2)))
theorem sx_moveM {post : Int32 → St1 → Prop} {u : St1} (hu : sx_M L S u) (hi : i ≤ j) (hj : j ≤ L.length) (hp : p ≤ L.length - (j - i)) (H : ∀ u', sx_M (sx_mv i j p L) (sx_mv i j p S) u' → post 0 u') : wpX_move post u (nI i) (nI j) (nI p) := by
  obtain ⟨g, c, fl, hd, bg, a1, a2, a3, a4, a5, rfl, h64, hSn, hl, hS, h0⟩ := id hu
  exact sx_move hl hS rfl hSn h64 hi hj hp (fun g' c' fl' hd' bg' a a' b' a4' a5' k1 k2 => H _ (sx_M_mk (sx_mv_len rfl hi hj hp) h64 (sx_mv_len hSn hi hj hp) k1 k2 (sx_mv_nn h0)))
theorem sx_T_move (hi : i ≤ j) (hj : j ≤ L.length) (hpn : p ≤ L.length) : sx_T L S (fun post u => wpX_move post u (nI i) (nI j) (nI p)) := by
  by_cases hp : p ≤ L.length - (j - i)
  · exact ⟨_, _, fun post u hu H => sx_moveM hu hi hj hp (H 0)⟩
  · refine ⟨L, S, fun post u hu H => ?_⟩
    obtain ⟨g, c, fl, hd, bg, a1, a2, a3, a4, a5, rfl, h64, hSn, hl, hS, h0⟩ := id hu
    unfold wpX_move
    dsimp only
    refine sx_bad h64 hi hj (br_t rfl (br_f (nI_pos (by omega)) (br_f ?_ (H _ _ hu))))
    rw [pk_sub hi, pk_sub (by omega)]
    exact nI_ge (by omega) (by omega)
theorem sx_T_copy (hi : i ≤ j) (hj : j ≤ L.length) (hp : p ≤ L.length) : sx_T L S (fun post u => wpX_copy post u (nI i) (nI j) (nI p)) := by
  have e : nI L.length + nI j - nI i = nI (L.length + (j - i)) := by
    rw [nI_add, pk_sub (by omega)]
    exact congrArg nI (by omega)
  by_cases hf : L.length + (j - i) ≤ 64
  · refine ⟨L.take p ++ (L.take j).drop i ++ L.drop p, S.take p ++ (S.take j).drop i ++ S.drop p, fun post u hu H => ?_⟩
    obtain ⟨g, c, fl, hd, bg, a1, a2, a3, a4, a5, rfl, h64, hSn, hl, hS, h0⟩ := id hu
    unfold wpX_copy
    dsimp only
    refine sx_bad h64 hi hj (br_t rfl (br_f (nI_pos (by omega)) (br_t (nI_le hp (by omega)) (br_t (by rw [e]; exact nI_le (b := 64) hf (by omega)) ?_))))
    refine sx_hold hl hS rfl hSn h64 hi hj (fun bg' a b ha hb => ?_)
    refine sx_giveBack hl hS ha hb (sx_sll rfl hj) (sx_sll hSn hj) rfl hSn hp hf (fun g2 c2 fl2 bg2 b2 b2' b2'' k1 k2 => H _ _ (sx_M_mk (sx_inl rfl hp (sx_sll rfl hj)) hf (sx_inl hSn hp (sx_sll hSn hj)) k1 k2 ?_))
    exact sx_nn_app (sx_nn_app (sx_nn_td h0 p p).1 (sx_nn_td (sx_nn_td h0 j j).1 i i).2) (sx_nn_td h0 p p).2
  · refine ⟨L, S, fun post u hu H => ?_⟩
    obtain ⟨g, c, fl, hd, bg, a1, a2, a3, a4, a5, rfl, h64, hSn, hl, hS, h0⟩ := id hu
    unfold wpX_copy
    dsimp only
    exact sx_bad h64 hi hj (br_t rfl (br_f (nI_pos (by omega)) (br_t (nI_le hp (by omega)) (br_f (by rw [e]; exact nI_ge (a := 64) (by omega) (by omega)) (H _ _ hu)))))
theorem sx_T_style {mk s : Nat} (hi : i ≤ j) (hj : j ≤ L.length) (hm : mk ≤ 15) (hs : s ≤ 63) : sx_T L S (fun post u => wpX_style post u (nI i) (nI j) (nI mk) (nI s)) := by
  refine ⟨L, sx_stl i j (nI mk) (nI s) S, fun post u hu H => ?_⟩
  obtain ⟨g, c, fl, hd, bg, a1, a2, a3, a4, a5, rfl, h64, hSn, hl, hS, h0⟩ := id hu
  exact sx_style hS hSn h64 hi hj hm hs (fun r c' bg' a b k => H _ _ (sx_M_mk rfl h64 (sx_stl_len hSn hi hj) hl k (sx_stl_nn h0 (nI_pos (by omega)))))
theorem sx_T_toggle {b : Nat} (hi : i ≤ j) (hj : j ≤ L.length) (hb : b = 1 ∨ b = 2 ∨ b = 4 ∨ b = 8) : sx_T L S (fun post u => wpX_toggle post u (nI i) (nI j) (nI b)) := by
  by_cases hb8 : b = 8
  · subst hb8
    refine ⟨L, S, fun post u hu H => ?_⟩
    obtain ⟨g, c, fl, hd, bg, a1, a2, a3, a4, a5, rfl, h64, hSn, hl, hS, h0⟩ := id hu
    unfold wpX_toggle
    dsimp only
    exact sx_bad h64 hi hj (br_t rfl (br_f (by decide) (br_f (by decide) (br_f (by decide) (H _ _ hu)))))
  · have hb' : b = 1 ∨ b = 2 ∨ b = 4 := by omega
    by_cases hij : i = j
    · subst hij
      refine ⟨L, S, fun post u hu H => ?_⟩
      obtain ⟨g, c, fl, hd, bg, a1, a2, a3, a4, a5, rfl, h64, hSn, hl, hS, h0⟩ := id hu
      unfold wpX_toggle
      dsimp only
      have K : wX_toggle_26 post (nI i) (nI i) (nI b) (nI L.length) (nI g) (nI c) fl hd bg a1 a2 a3 a4 a5 := br_t rfl (H _ _ hu)
      refine sx_bad h64 hi hj (br_t rfl ?_)
      exact br_c (fun _ => K) (fun n1 => br_c (fun _ => K) (fun n2 => br_c (fun _ => K) (fun n3 => by
        rcases hb' with rfl | rfl | rfl
        · exact absurd rfl n1
        · exact absurd rfl n2
        · exact absurd rfl n3)))
    · by_cases hy : ∃ y, sx_all S i j (nI b) y
      · obtain ⟨y, hy⟩ := hy
        refine ⟨L, if y = 0 then sx_stl i j (nI b) (nI b) S else sx_stl i j (nI b) (nI 0) S, fun post u hu H => ?_⟩
        obtain ⟨g, c, fl, hd, bg, a1, a2, a3, a4, a5, rfl, h64, hSn, hl, hS, h0⟩ := id hu
        refine sx_toggle hS hSn h64 (by omega) hj hb' (fun y' hy' r c' bg' a b' k => H _ _ (sx_M_mk rfl h64 ?_ hl (sx_all_uniq hy' hy ▸ k) ?_))
        · split
          · exact sx_stl_len hSn hi hj
          · exact sx_stl_len hSn hi hj
        · split
          · exact sx_stl_nn h0 (nI_pos (by omega))
          · exact sx_stl_nn h0 (nI_pos (by omega))
      · refine ⟨L, S, fun post u hu H => ?_⟩
        obtain ⟨g, c, fl, hd, bg, a1, a2, a3, a4, a5, rfl, h64, hSn, hl, hS, h0⟩ := id hu
        exact sx_toggle hS hSn h64 (by omega) hj hb' (fun y' hy' r c' bg' a b' k => absurd ⟨y', hy'⟩ hy)
theorem sx_T_replace {x y : Nat} (hx : x ≤ 25) (hy : y ≤ 25) : sx_T L S (fun post u => wpX_replace post u (nI x) (nI y)) := by
  refine ⟨L.map (fun v => if v = nI x then nI y else v), S, fun post u hu H => ?_⟩
  obtain ⟨g, c, fl, hd, bg, a1, a2, a3, a4, a5, rfl, h64, hSn, hl, hS, h0⟩ := id hu
  unfold wpX_replace
  dsimp only
  refine sx_badLetter hx (br_t rfl (sx_badLetter hy (br_t rfl ⟨L.length + 1, ?_⟩)))
  exact sx_rp23 (L := L) h64 (sx_L_len hl) (fun r a k => H _ _ (sx_M_mk (List.length_map _) h64 hSn k hS h0)) L [] 0 a1 (by simp) rfl hl
theorem sx_T_setFlag (hp : p ≤ L.length) : sx_T L S (fun post u => wpX_setFlag post u (nI p)) := by
  refine ⟨L, S, fun post u hu H => ?_⟩
  obtain ⟨g, c, fl, hd, bg, a1, a2, a3, a4, a5, rfl, h64, hSn, hl, hS, h0⟩ := id hu
  exact br_f (nI_pos (by omega)) (br_t (nI_le hp (by omega)) (H _ _ (sx_M_mk rfl h64 hSn hl hS h0)))
end
end
section
/-! ===== one turn ===== -/
theorem sx_shl1 : ∀ b, b < 4 → (1 : Int32) <<< (nI b &&& 31) = nI (2 ^ b) := by decide +kernel
theorem sx_pick {α : Type} (o : Nat) (P1 P2 P3 P4 P5 P6 P7 P8 P9 : α) : ∃ F : α, (o < 3 → F = P1) ∧ (3 ≤ o → o < 6 → F = P2) ∧ (o = 6 → F = P3) ∧ (o = 7 → F = P4) ∧ (o = 8 → F = P5) ∧ (9 ≤ o → o < 12 → F = P6) ∧ (12 ≤ o → o < 14 → F = P7) ∧ (o = 14 → F = P8) ∧ (15 ≤ o → F = P9) := by
  have : o < 3 ∨ (3 ≤ o ∧ o < 6) ∨ o = 6 ∨ o = 7 ∨ o = 8 ∨ (9 ≤ o ∧ o < 12) ∨ (12 ≤ o ∧ o < 14) ∨ o = 14 ∨ 15 ≤ o := by omega
  rcases this with z | z | z | z | z | z | z | z | z
  · refine ⟨P1, ?_, ?_, ?_, ?_, ?_, ?_, ?_, ?_, ?_⟩ <;> intros <;> first | rfl | omega
  · refine ⟨P2, ?_, ?_, ?_, ?_, ?_, ?_, ?_, ?_, ?_⟩ <;> intros <;> first | rfl | omega
  · refine ⟨P3, ?_, ?_, ?_, ?_, ?_, ?_, ?_, ?_, ?_⟩ <;> intros <;> first | rfl | omega
  · refine ⟨P4, ?_, ?_, ?_, ?_, ?_, ?_, ?_, ?_, ?_⟩ <;> intros <;> first | rfl | omega
  · refine ⟨P5, ?_, ?_, ?_, ?_, ?_, ?_, ?_, ?_, ?_⟩ <;> intros <;> first | rfl | omega
  · refine ⟨P6, ?_, ?_, ?_, ?_, ?_, ?_, ?_, ?_, ?_⟩ <;> intros <;> first | rfl | omega
  · refine ⟨P7, ?_, ?_, ?_, ?_, ?_, ?_, ?_, ?_, ?_⟩ <;> intros <;> first | rfl | omega
  · refine ⟨P8, ?_, ?_, ?_, ?_, ?_, ?_, ?_, ?_, ?_⟩ <;> intros <;> first | rfl | omega
  · refine ⟨P9, ?_, ?_, ?_, ?_, ?_, ?_, ?_, ?_, ?_⟩ <;> intros <;> first | rfl | omega
theorem sx_turn (L S : List Int32) (hL : L.length ≤ 64) (op x : Int32) : sx_T L S (fun post u => wpL_turn post u op x) := by
  obtain ⟨o, ho, eo⟩ := pk_andE op 4 (m := 15) (by decide)
  obtain ⟨b0, hb0, e0⟩ := pk_andE x 6 (m := 63) (by decide)
  obtain ⟨b1, hb1, e1⟩ := pk_andE (x >>> ((6 : Int32) &&& 31)) 4 (m := 15) (by decide)
  obtain ⟨cl, hcl, ec⟩ := pk_andE (x >>> ((10 : Int32) &&& 31)) 2 (m := 3) (by decide)
  obtain ⟨sv, hsv, es⟩ := pk_andE (x >>> ((12 : Int32) &&& 31)) 4 (m := 15) (by decide)
  obtain ⟨b2, hb2, e2⟩ := pk_andE (x >>> ((16 : Int32) &&& 31)) 6 (m := 63) (by decide)
  obtain ⟨k7, hk7, e7⟩ := pk_andE (x >>> ((22 : Int32) &&& 31)) 3 (m := 7) (by decide)
  obtain ⟨mk, hmk, em⟩ := pk_andE (x >>> ((22 : Int32) &&& 31)) 4 (m := 15) (by decide)
  obtain ⟨tb, htb, et⟩ := pk_andE (x >>> ((22 : Int32) &&& 31)) 2 (m := 3) (by decide)
  obtain ⟨dl, hdl, ed⟩ := pk_andE (nI sv) 2 (m := 3) (by decide)
  have hi : b0 % (L.length + 1) ≤ L.length := by have := Nat.mod_lt b0 (show 0 < L.length + 1 by omega); omega
  have hp : b2 % (L.length + 1) ≤ L.length := by have := Nat.mod_lt b2 (show 0 < L.length + 1 by omega); omega
  have hj : b0 % (L.length + 1) + b1 % (L.length - b0 % (L.length + 1) + 1) ≤ L.length := by have := Nat.mod_lt b1 (show 0 < L.length - b0 % (L.length + 1) + 1 by omega); omega
  have ei : nI b0 - nI b0 / (nI L.length + 1) * (nI L.length + 1) = nI (b0 % (L.length + 1)) := by
    rw [nI_1]
    exact pk_rem (by omega) (by omega) (by omega)
  have ep : nI b2 - nI b2 / (nI L.length + 1) * (nI L.length + 1) = nI (b2 % (L.length + 1)) := by
    rw [nI_1]
    exact pk_rem (by omega) (by omega) (by omega)
  generalize hib : b0 % (L.length + 1) = i at *
  generalize hpb : b2 % (L.length + 1) = p at *
  have ej1 : nI L.length - nI i + 1 = nI (L.length - i + 1) := by
    rw [pk_sub hi, nI_1]
  have ej : nI i + (nI b1 - nI b1 / (nI L.length - nI i + 1) * (nI L.length - nI i + 1)) = nI (i + b1 % (L.length - i + 1)) := by
    rw [ej1, pk_rem (by omega) (by omega) (by omega)]
    exact nI_add _ _
  generalize hjb : i + b1 % (L.length - i + 1) = j at *
  have hij : i ≤ j := by omega
  have htb2 : 2 ^ tb = 1 ∨ 2 ^ tb = 2 ∨ 2 ^ tb = 4 ∨ 2 ^ tb = 8 := by
    have : tb = 0 ∨ tb = 1 ∨ tb = 2 ∨ tb = 3 := by omega
    rcases this with rfl | rfl | rfl | rfl <;> decide
  obtain ⟨L1, S1, h1⟩ := sx_T_type (L := L) (S := S) (p := i) (x := cl) hi (by omega)
  obtain ⟨L2, S2, h2⟩ := sx_T_put (L := L) (S := S) (p := i) (x := cl) (k := k7) (s := sv) hi (by omega) (by omega) (by omega)
  obtain ⟨L3, S3, h3⟩ := sx_T_remove (L := L) (S := S) (i := i) (j := j) hij hj
  obtain ⟨L4, S4, h4⟩ := sx_T_move (L := L) (S := S) (i := i) (j := j) (p := p) hij hj hp
  obtain ⟨L5, S5, h5⟩ := sx_T_copy (L := L) (S := S) (i := i) (j := j) (p := p) hij hj hp
  obtain ⟨L6, S6, h6⟩ := sx_T_style (L := L) (S := S) (i := i) (j := j) (mk := mk) (s := sv) hij hj (by omega) (by omega)
  obtain ⟨L7, S7, h7⟩ := sx_T_toggle (L := L) (S := S) (i := i) (j := j) (b := 2 ^ tb) hij hj htb2
  obtain ⟨L8, S8, h8⟩ := sx_T_replace (L := L) (S := S) (x := cl) (y := dl) (by omega) (by omega)
  obtain ⟨L9, S9, h9⟩ := sx_T_setFlag (L := L) (S := S) (p := p) hp
  obtain ⟨F, f1, f2, f3, f4, f5, f6, f7, f8, f9⟩ := sx_pick o (L1, S1) (L2, S2) (L3, S3) (L4, S4) (L5, S5) (L6, S6) (L7, S7) (L8, S8) (L9, S9)
  refine ⟨F.1, F.2, fun post u hu H => ?_⟩
  have G : ∀ {L' S' : List Int32} {r : Int32} {u' : St1}, F = (L', S') → sx_M L' S' u' → post r u' := fun e h => H _ _ (by rw [e]; exact h)
  obtain ⟨g, c, fl, hd, bg, a1, a2, a3, a4, a5, rfl, h64, hSn, hl, hS, h0⟩ := id hu
  have n1 : ¬ nI L.length + 1 = 0 := by rw [nI_1]; exact nI_ne0 (by omega) (by omega)
  have n2 : ¬ nI L.length - nI i + 1 = 0 := by rw [ej1]; exact nI_ne0 (by omega) (by omega)
  rw [← e0] at ei
  rw [← e1] at ej
  rw [← e2] at ep
  refine nm_r eo ⟨n1, nm_r ei ⟨n2, nm_r ej (nm_r ec (nm_r es ⟨n1, nm_r ep ?_⟩))⟩⟩
  refine pk_le 3 o (fun z3 => pk_le 6 o (fun z6 => pk_eq o 6 (fun q6 => h3 _ _ hu (fun r u' k => G (f3 q6) k)) (fun q6 => pk_eq o 7 (fun q7 => h4 _ _ hu (fun r u' k => G (f4 q7) k)) (fun q7 => pk_eq o 8 (fun q8 => h5 _ _ hu (fun r u' k => G (f5 q8) k)) (fun q8 => pk_le 12 o (fun z12 => pk_le 14 o (fun z14 => pk_eq o 14 (fun q14 => ?_) (fun q14 => h9 _ _ hu (fun r u' k => G (f9 (by omega)) k))) (fun z14 => ?_)) (fun z12 => ?_))))) (fun z6 => ?_)) (fun z3 => h1 _ _ hu (fun r u' k => G (f1 z3) k))
  · rw [ed]
    exact h8 _ _ hu (fun r u' k => G (f8 q14) k)
  · rw [et, sx_shl1 tb (by omega)]
    exact h7 _ _ hu (fun r u' k => G (f7 z12 z14) k)
  · rw [em]
    exact h6 _ _ hu (fun r u' k => G (f6 (by omega) z12) k)
  · rw [e7]
    exact h2 _ _ hu (fun r u' k => G (f2 z3 z6) k)
end
section
/-! ===== looking ===== -/
def sx_dg (L S : List Int32) : Nat → Int32
  | 0 => 0
  | p + 1 => sx_dg L S p + nI (p + 1) * (64 * L.getD p 0 + S.getD p 0)
section
variable {n g c p q r : Nat} {nn gg cc fl hd bg : Int32} {a1 a2 a3 a4 a5 : Nat → Int32} {L S : List Int32} {R : List (Nat × Int32)}
theorem sx_off {post : Int32 → Prop} (h64 : n ≤ 64) (hq : q ≤ 64) (H1 : q < n → post 0) (H2 : n ≤ q → post 1) : wpX_off post (nI n, gg, cc, fl, hd, bg, a1, a2, a3, a4, a5) (nI q) :=
  br_f (nI_pos (by omega)) (pk_lt q n H1 H2)
theorem sx_letter {post : Int32 → Prop} (hl : sx_L a1 g L) (hn : L.length = n) (h64 : n ≤ 64) (hq : q ≤ 64) (H : post (if q < n then L.getD q 0 else -4)) : wpX_letter post (nI n, nI g, cc, fl, hd, bg, a1, a2, a3, a4, a5) (nI q) := by
  unfold wpX_letter
  dsimp only
  refine sx_off h64 hq (fun z => br_t rfl ?_) (fun z => br_f (by decide) ?_)
  · have hg : g ≤ n := hn ▸ sx_L_len hl
    have hx := sx_ix_lt hg h64 z
    refine sx_cellOf hg h64 z ⟨pk_in (sx_ix g n q) 64 hx, ?_⟩
    have := sx_L_get hl (by omega) (q := q) (by omega)
    rw [hn] at this
    rw [nI_clamp (by omega), this]
    rwa [if_pos z] at H
  · rwa [if_neg (by omega)] at H
theorem sx_styleAt {post : Int32 → St1 → Prop} (hS : sx_S a2 a3 c S) (hSn : S.length = n) (h64 : n ≤ 64) (hq : q ≤ 64) (H : ∀ bg', post (if q < n then S.getD q 0 else -4) (nI n, gg, nI c, fl, hd, bg', a1, a2, a3, a4, a5)) : wpX_styleAt post (nI n, gg, nI c, fl, hd, bg, a1, a2, a3, a4, a5) (nI q) := by
  unfold wpX_styleAt
  dsimp only
  refine sx_off h64 hq (fun z => br_t rfl ?_) (fun z => br_f (by decide) ?_)
  · refine sx_styleHere hS hSn h64 z (fun bg' => ?_)
    have := H bg'
    rwa [if_pos z] at this
  · have := H bg
    rwa [if_neg (by omega)] at this
theorem sx_rb19 {post : Int32 → Prop} {U V : List (Nat × Int32)} (hr : sx_rn a2 a3 0 (U ++ V)) (hU : U.length = r) (h64 : r ≤ 64) (H : post (nI (sx_tot U))) :
    ∀ (M A : List (Nat × Int32)), U = A ++ M → wX_runBegin_19 post (nI r) nn gg cc fl hd bg a1 a2 a3 a4 a5 (M.length + 1) (nI (sx_tot A)) (nI A.length)
  | [], A, e => by
    rw [List.append_nil] at e
    subst e
    exact pk_le r U.length (fun _ => H) (fun z => absurd z (by omega))
  | x :: M, A, e => by
    have hl : A.length + (M.length + 1) = r := by rw [← hU, e, List.length_append, List.length_cons]
    have hr' : sx_rn a2 a3 0 (A ++ x :: (M ++ V)) := by
      rw [e, List.append_assoc] at hr
      exact hr
    have ea : nI (sx_tot A) + a2 (nI A.length).toNatClampNeg = nI (sx_tot A + x.1) := by
      rw [nI_clamp (by omega), (sx_rn_at hr').1]
      exact nI_add _ _
    have l1 : (A ++ [x]).length = A.length + 1 := by simp
    have l2 : sx_tot (A ++ [x]) = sx_tot A + x.1 := by simp [sx_tot_app, sx_tot]
    have t := sx_rb19 hr hU h64 H M (A ++ [x]) (by rw [e]; simp)
    rw [l1, l2] at t
    exact pk_le r A.length (fun z => absurd z (by omega)) (fun _ => ⟨pk_in A.length 68 (by omega), nm_r ea (nm_r (nI_1 _) t)⟩)
theorem sx_runBegin {post : Int32 → Prop} {U V : List (Nat × Int32)} (hr : sx_rn a2 a3 0 (U ++ V)) (hU : U.length = r) (hc : r < c) (h64 : c ≤ 64) (H : post (nI (sx_tot U))) :
    wpX_runBegin post (nn, gg, nI c, fl, hd, bg, a1, a2, a3, a4, a5) (nI r) :=
  br_f (nI_pos (by omega)) (br_t (nI_lt hc (by omega)) ⟨U.length + 1, sx_rb19 hr hU (by omega) H U [] rfl⟩)
theorem sx_runStyle {post : Int32 → Prop} (hc : r < c) (h64 : c ≤ 64) (H : post (a3 r)) : wpX_runStyle post (nn, gg, nI c, fl, hd, bg, a1, a2, a3, a4, a5) (nI r) := by
  refine br_f (nI_pos (by omega)) (br_t (nI_lt hc (by omega)) ⟨pk_in r 68 (by omega), ?_⟩)
  rwa [nI_clamp (by omega)]
theorem sx_runEnd {post : Int32 → Prop} (h64 : c ≤ 64) (H : post (-4)) : wpX_runBegin post (nn, gg, nI c, fl, hd, bg, a1, a2, a3, a4, a5) (nI c) ∧ wpX_runStyle post (nn, gg, nI c, fl, hd, bg, a1, a2, a3, a4, a5) (nI c) :=
  ⟨br_f (nI_pos (by omega)) (br_f (nI_nlt (Nat.le_refl c) (by omega)) H), br_f (nI_pos (by omega)) (br_f (nI_nlt (Nat.le_refl c) (by omega)) H)⟩
theorem sx_runOf {post : Int32 → St1 → Prop} (h64 : n ≤ 64) (hq : q < n) (H : wpX_runAt post (nI n, gg, cc, fl, hd, bg, a1, a2, a3, a4, a5) (nI q)) : wpX_runOf post (nI n, gg, cc, fl, hd, bg, a1, a2, a3, a4, a5) (nI q) := by
  unfold wpX_runOf
  dsimp only
  exact sx_off h64 (by omega) (fun z => br_t rfl H) (fun z => absurd z (by omega))
theorem sx_dg17 {post : Int32 → Prop} {J : Int32 → Int32 → Int32 → Prop} {A M : List (Nat × Int32)} {x : Nat × Int32} (hl : sx_L a1 g L) (hn : L.length = n) (h64 : n ≤ 64) (hr : sx_rn a2 a3 0 (A ++ x :: M)) (hS : sx_ex (A ++ x :: M) = S) (hSn : S.length = n) (hA : A.length < 68)
    (H : J (sx_dg L S (sx_tot A + x.1)) (nI (sx_tot A + x.1)) (nI (A.length + 1))) :
    ∀ (d k : Nat), k + d = x.1 → wX_digest_17 post J (nI A.length) (nI n) (nI g) (nI c) fl hd bg a1 a2 a3 a4 a5 (d + 1) (sx_dg L S (sx_tot A + k)) (nI (sx_tot A + k)) (nI k)
  | 0, k, h => by
    have hT : sx_tot A + (x.1 + sx_tot M) = n := by
      rw [← hSn, ← hS, sx_ex_len, sx_tot_app]
      rfl
    have ha : a2 (nI A.length).toNatClampNeg = nI x.1 := by rw [nI_clamp (by omega), (sx_rn_at hr).1]
    obtain rfl : k = x.1 := by omega
    exact ⟨pk_in A.length 68 hA, pk_le x.1 x.1 (fun _ => nm_r (nI_1 _) H) (fun z => absurd z (by omega)) ha rfl⟩
  | d + 1, k, h => by
    have hT : sx_tot A + (x.1 + sx_tot M) = n := by
      rw [← hSn, ← hS, sx_ex_len, sx_tot_app]
      rfl
    have ha : a2 (nI A.length).toNatClampNeg = nI x.1 := by rw [nI_clamp (by omega), (sx_rn_at hr).1]
    have hg : g ≤ n := hn ▸ sx_L_len hl
    have hix := sx_ix_lt hg h64 (show sx_tot A + k < n by omega)
    have hv := sx_L_get hl (by omega) (q := sx_tot A + k) (by omega)
    rw [hn] at hv
    have hb : a3 (nI A.length).toNatClampNeg = S.getD (sx_tot A + k) 0 := by
      rw [nI_clamp (by omega), (sx_rn_at hr).2, ← hS, sx_ex_get (by omega) (by omega)]
    have t := sx_dg17 (post := post) hl hn h64 hr hS hSn hA H d (k + 1) (by omega)
    refine ⟨pk_in A.length 68 hA, pk_le x.1 k (fun z => absurd z (by omega)) (fun _ => sx_cellOf hg h64 (by omega) (nm_r (nI_1 _) ⟨pk_in (sx_ix g n (sx_tot A + k)) 64 hix, pk_in A.length 68 hA, nm_r ?_ (nm_r (nI_1 _) t)⟩)) ha rfl⟩
    rw [hb, nI_clamp (by omega), hv]
    rfl
theorem sx_dg6 {post : Int32 → Prop} (hl : sx_L a1 g L) (hn : L.length = n) (h64 : n ≤ 64) (hr : sx_rn a2 a3 0 R) (hS : sx_ex R = S) (hSn : S.length = n) (hc : R.length = c) (hcl : c ≤ 64) (H : post (sx_dg L S n)) :
    ∀ (M A : List (Nat × Int32)), R = A ++ M → wX_digest_6 post (nI n) (nI g) (nI c) fl hd bg a1 a2 a3 a4 a5 (M.length + 1) (sx_dg L S (sx_tot A)) (nI (sx_tot A)) (nI A.length)
  | [], A, e => by
    rw [List.append_nil] at e
    subst e
    have hT : sx_tot R = n := by rw [← hSn, ← hS, sx_ex_len]
    rw [hT]
    exact pk_le c R.length (fun _ => H) (fun z => absurd z (by omega))
  | x :: M, A, e => by
    have hlen : A.length + (M.length + 1) = c := by rw [← hc, e, List.length_append, List.length_cons]
    have l1 : (A ++ [x]).length = A.length + 1 := by simp
    have l2 : sx_tot (A ++ [x]) = sx_tot A + x.1 := by simp [sx_tot_app, sx_tot]
    have t := sx_dg6 hl hn h64 hr hS hSn hc hcl H M (A ++ [x]) (by rw [e]; simp)
    rw [l1, l2] at t
    exact pk_le c A.length (fun z => absurd z (by omega)) (fun _ => ⟨x.1 + 1, sx_dg17 hl hn h64 (e ▸ hr) (e ▸ hS) hSn (by omega) t x.1 0 (by omega)⟩)
theorem sx_digest {post : Int32 → Prop} (hl : sx_L a1 g L) (hS : sx_S a2 a3 c S) (hn : L.length = n) (hSn : S.length = n) (h64 : n ≤ 64) (H : post (sx_dg L S n)) : wpX_digest post (nI n, nI g, nI c, fl, hd, bg, a1, a2, a3, a4, a5) := by
  obtain ⟨R, hr, hcan, hR, hc⟩ := hS
  have hpos := sx_can_pos hcan
  have hT : sx_tot R = n := by rw [← hSn, ← hR, sx_ex_len]
  have hcl : c ≤ 64 := by have := sx_pos_len hpos; omega
  exact ⟨R.length + 1, sx_dg6 hl hn h64 hr hR hSn hc hcl H R [] rfl⟩
end
theorem sx_mv_back {l : List Int32} {i j p n : Nat} (hn : l.length = n) (hi : i ≤ j) (hj : j ≤ n) (hp : p ≤ n - (j - i)) : sx_mv p (p + (j - i)) i (sx_mv i j p l) = l := by
  have hD := sx_dl hn hi hj
  have hX := sx_sll (i := i) hn hj
  have hA := sx_at (B := (l.take i ++ l.drop j).drop p) (sx_tk hD hp) hX
  have h1 : (sx_mv i j p l).take p = (l.take i ++ l.drop j).take p := by
    unfold sx_mv
    rw [List.append_assoc, List.take_left' (sx_tk hD hp)]
  have h2 : (sx_mv i j p l).drop (p + (j - i)) = (l.take i ++ l.drop j).drop p := hA.2
  have h3 : (sx_mv i j p l).take (p + (j - i)) = (l.take i ++ l.drop j).take p ++ (l.take j).drop i := hA.1
  have h4 : (sx_mv p (p + (j - i)) i (sx_mv i j p l)) = ((sx_mv i j p l).take p ++ (sx_mv i j p l).drop (p + (j - i))).take i ++ ((sx_mv i j p l).take (p + (j - i))).drop p ++ ((sx_mv i j p l).take p ++ (sx_mv i j p l).drop (p + (j - i))).drop i := rfl
  rw [h4, h1, h2, h3, List.take_append_drop, List.drop_left' (sx_tk hD hp), List.take_left' (sx_tk hn (by omega)), List.drop_left' (sx_tk hn (by omega))]
  have h5 : l.take i = (l.take j).take i := by rw [List.take_take, Nat.min_eq_left hi]
  rw [h5, List.take_append_drop, List.take_append_drop]
end
section
/-! ===== the law ===== -/
section
variable {n g c : Nat} {fl hd : Int32} {a1 a2 a3 a4 a5 : Nat → Int32} {L S : List Int32} {R : List (Nat × Int32)}
theorem sx_eq2 {post : Int32 → St2 → Prop} {g' c' : Nat} {fl' hd' : Int32} {d1 d2 d3 d4 d5 : Nat → Int32} (hn : L.length = n) (hSn : S.length = n) (h64 : n ≤ 64) (hl : sx_L a1 g L) (hS : sx_S a2 a3 c S) (hl' : sx_L d1 g' L) (hS' : sx_S d2 d3 c' S)
    (H : ∀ bg bg', post 1 (nI n, nI g, nI c, fl, hd, bg, a1, a2, a3, a4, a5, nI n, nI g', nI c', fl', hd', bg', d1, d2, d3, d4, d5)) :
    ∀ (d k : Nat) (bg bg' : Int32), k + d = 64 → wL_equal_2 post (d + 1) (nI k) (nI n) (nI g) (nI c) fl hd bg a1 a2 a3 a4 a5 (nI n) (nI g') (nI c') fl' hd' bg' d1 d2 d3 d4 d5
  | 0, k, bg, bg', h => by
    obtain rfl : k = 64 := by omega
    obtain rfl := sx_S_uniq hS hS'
    refine br_t (nI_le (a := 64) (by omega) (by omega)) (br_t rfl ?_)
    refine sx_digest hl hS hn hSn h64 ?_
    refine sx_digest hl' hS' hn hSn h64 (br_t rfl (br_t rfl (H bg bg')))
  | d + 1, k, bg, bg', h => by
    refine br_f (nI_ge (b := 64) (by omega) (by omega)) ?_
    refine sx_letter hl hn h64 (by omega) ?_
    refine sx_letter hl' hn h64 (by omega) (br_t rfl ?_)
    refine sx_styleAt hS hSn h64 (by omega) (fun b => ?_)
    refine sx_styleAt hS' hSn h64 (by omega) (fun b' => br_t rfl (nm_r (nI_1 k) ?_))
    exact sx_eq2 hn hSn h64 hl hS hl' hS' H d (k + 1) b b' (by omega)
end
section
variable {post : Int32 → Prop} {Lx : Nat} {xs : Nat → Int32} {x3 : Int32} {kc ks : Nat} {n g c : Nat} {fl hd : Int32} {a1 a2 a3 a4 a5 : Nat → Int32} {L S : List Int32} {R : List (Nat × Int32)}
  {v1 v2 v3 v4 v5 v6 : Int32} {d1 d2 d3 d4 d5 : Nat → Int32}
theorem sx_l234 {bg : Int32} (hp1 : post 1) (hn : L.length = n) (hSn : S.length = n) (h64 : n ≤ 64) (hl : sx_L a1 g L) (hS : sx_S a2 a3 c S) (hu : sx_M L S (v1, v2, v3, v4, v5, v6, d1, d2, d3, d4, d5)) :
    wL_law_234 post Lx xs x3 (nI n) (nI c) kc ks (nI n) (nI g) (nI c) fl hd bg a1 a2 a3 a4 a5 v1 v2 v3 v4 v5 v6 d1 d2 d3 d4 d5 := by
  obtain ⟨b0, hb0, e0⟩ := pk_andE x3 6 (m := 63) (by decide)
  obtain ⟨b1, hb1, e1⟩ := pk_andE (x3 >>> ((6 : Int32) &&& 31)) 6 (m := 63) (by decide)
  obtain ⟨b2, hb2, e2⟩ := pk_andE (x3 >>> ((12 : Int32) &&& 31)) 6 (m := 63) (by decide)
  have hi : b0 % (n + 1) ≤ n := by have := Nat.mod_lt b0 (show 0 < n + 1 by omega); omega
  have ei : (x3 &&& 63) - (x3 &&& 63) / (nI n + 1) * (nI n + 1) = nI (b0 % (n + 1)) := by
    rw [e0, nI_1]
    exact pk_rem (by omega) (by omega) (by omega)
  generalize b0 % (n + 1) = i at *
  have ej1 : nI n - nI i + 1 = nI (n - i + 1) := by
    rw [pk_sub hi, nI_1]
  have hj : i + b1 % (n - i + 1) ≤ n := by have := Nat.mod_lt b1 (show 0 < n - i + 1 by omega); omega
  have hij : i ≤ i + b1 % (n - i + 1) := by omega
  have ej : nI i + ((x3 >>> ((6 : Int32) &&& 31) &&& 63) - (x3 >>> ((6 : Int32) &&& 31) &&& 63) / (nI n - nI i + 1) * (nI n - nI i + 1)) = nI (i + b1 % (n - i + 1)) := by
    rw [e1, ej1, pk_rem (by omega) (by omega) (by omega)]
    exact nI_add _ _
  generalize i + b1 % (n - i + 1) = j at *
  have ek1 : nI n - (nI j - nI i) + 1 = nI (n - (j - i) + 1) := by
    rw [pk_sub hij, pk_sub (by omega), nI_1]
  have hp : b2 % (n - (j - i) + 1) ≤ n - (j - i) := by have := Nat.mod_lt b2 (show 0 < n - (j - i) + 1 by omega); omega
  have ep : (x3 >>> ((12 : Int32) &&& 31) &&& 63) - (x3 >>> ((12 : Int32) &&& 31) &&& 63) / (nI n - (nI j - nI i) + 1) * (nI n - (nI j - nI i) + 1) = nI (b2 % (n - (j - i) + 1)) := by
    rw [e2, ek1, pk_rem (by omega) (by omega) (by omega)]
  generalize b2 % (n - (j - i) + 1) = p at *
  have hcl : c ≤ 64 := by
    obtain ⟨R, hr, hcan, hR, hc⟩ := hS
    have := sx_pos_len (sx_can_pos hcan)
    rw [← sx_ex_len, hR] at this
    omega
  have eb : nI p + nI j - nI i = nI (p + (j - i)) := by
    rw [nI_add, pk_sub (by omega)]
    exact congrArg nI (by omega)
  refine ⟨by rw [nI_1]; exact nI_ne0 (by omega) (by omega), nm_r ei ⟨by rw [ej1]; exact nI_ne0 (by omega) (by omega), nm_r ej ⟨by rw [ek1]; exact nI_ne0 (by omega) (by omega), nm_r ep ?_⟩⟩⟩
  refine sx_moveM hu hij (by omega) (by omega) (fun u1 hu1 => ?_)
  obtain ⟨g1, c1, fl1, hd1, bg1, m1, m2, m3, m4, m5, rfl, h641, hSn1, hl1, hS1, h01⟩ := id hu1
  have hl2 := sx_mv_len hn hij hj hp
  dsimp only
  rw [eb]
  refine sx_moveM hu1 (by omega) (by omega) (by omega) (fun u2 hu2 => ?_)
  rw [sx_mv_back hn hij hj hp, sx_mv_back hSn hij hj hp] at hu2
  obtain ⟨g2, c2, fl2, hd2, bg2, k1, k2, k3, k4, k5, rfl, h642, hSn2, hl3, hS2, h02⟩ := id hu2
  dsimp only
  refine (sx_runEnd hcl (br_t rfl ?_)).1
  refine (sx_runEnd hcl (br_t rfl (br_t rfl (br_t rfl ?_)))).2
  rw [hn]
  refine ⟨65, sx_eq2 hn hSn h64 hl hS hl3 hS2 (fun b b' => br_f (by decide) hp1) 64 0 bg bg2 (by omega)⟩
theorem sx_l189 (hp1 : post 1) (hn : L.length = n) (hSn : S.length = n) (h64 : n ≤ 64) (hl : sx_L a1 g L) (hS : sx_S a2 a3 c S) (hu : sx_M L S (v1, v2, v3, v4, v5, v6, d1, d2, d3, d4, d5)) :
    ∀ (d k : Nat) (bg : Int32), k + d = n → wL_law_189 post Lx xs x3 (nI n) (nI c) kc ks (d + 1) (nI k) (nI n) (nI g) (nI c) fl hd bg a1 a2 a3 a4 a5 v1 v2 v3 v4 v5 v6 d1 d2 d3 d4 d5
  | 0, k, bg, h => by
    obtain rfl : k = n := by omega
    have K : wL_law_234 post Lx xs x3 (nI k) (nI c) kc ks (nI k) (nI g) (nI c) fl hd bg a1 a2 a3 a4 a5 v1 v2 v3 v4 v5 v6 d1 d2 d3 d4 d5 := sx_l234 hp1 hn hSn h64 hl hS hu
    exact br_c (fun _ => K) (fun _ => br_t (nI_le (Nat.le_refl k) (by omega)) K)
  | d + 1, k, bg, h => by
    refine br_f (nI_ge (b := 64) (by omega) (by omega)) (br_f (nI_ge (by omega) (by omega)) ?_)
    refine sx_runOf h64 (by omega) (sx_runAtS hS hSn h64 (by omega) (fun r b hr hc e => ?_))
    dsimp only
    refine sx_styleAt hS hSn h64 (by omega) (fun b' => ?_)
    dsimp only
    refine sx_runStyle hr hc (br_t (by rw [if_pos (by omega), e]) (nm_r (nI_1 k) ?_))
    exact sx_l189 hp1 hn hSn h64 hl hS hu d (k + 1) b' (by omega)
theorem sx_l98 (hp1 : post 1) (hn : L.length = n) (hSn : S.length = n) (h64 : n ≤ 64) (hl : sx_L a1 g L) (hr : sx_rn a2 a3 0 R) (hcan : sx_can R) (hR : sx_ex R = S) (hc : R.length = c) (hu : sx_M L S (v1, v2, v3, v4, v5, v6, d1, d2, d3, d4, d5)) :
    ∀ (M A : List (Nat × Int32)) (x6 x7 bg : Int32), R = A ++ M → sx_can M → ¬ nI (sx_tot A) ≤ x6 → (∀ y N, M = y :: N → ¬ y.2 = x7) →
      wL_law_98 post Lx xs x3 (nI n) (nI c) kc ks (M.length + 1) x6 x7 (nI A.length) (nI n) (nI g) (nI c) fl hd bg a1 a2 a3 a4 a5 v1 v2 v3 v4 v5 v6 d1 d2 d3 d4 d5
  | [], A, x6, x7, bg, e, hM, h6, h7 => by
    rw [List.append_nil] at e
    subst e
    have hcl : c ≤ n := by have := sx_pos_len (sx_can_pos hcan); rw [← sx_ex_len, hR] at this; omega
    have K : ∃ fu, wL_law_189 post Lx xs x3 (nI n) (nI c) kc ks fu 0 (nI n) (nI g) (nI c) fl hd bg a1 a2 a3 a4 a5 v1 v2 v3 v4 v5 v6 d1 d2 d3 d4 d5 := ⟨n + 1, sx_l189 hp1 hn hSn h64 hl ⟨R, hr, hcan, hR, hc⟩ hu n 0 bg (by omega)⟩
    exact br_c (fun _ => K) (fun _ => br_t (nI_le (by omega) (by omega)) K)
  | y :: M, A, x6, x7, bg, e, hM, h6, h7 => by
    have hpos := sx_can_pos hcan
    have hcl : c ≤ n := by have := sx_pos_len hpos; rw [← sx_ex_len, hR] at this; omega
    have hlen : A.length + (M.length + 1) = c := by rw [← hc, e, List.length_append, List.length_cons]
    have hT : sx_tot A + (y.1 + sx_tot M) = n := by
      rw [← hSn, ← hR, sx_ex_len, e, sx_tot_app]
      rfl
    have hTR : sx_tot R = n := by rw [← hSn, ← hR, sx_ex_len]
    have hy0 : 0 < y.1 := hM.1
    have hr' : sx_rn a2 a3 0 (A ++ y :: M) := e ▸ hr
    have l1 : (A ++ [y]).length = A.length + 1 := by simp
    have l2 : sx_tot (A ++ [y]) = sx_tot A + y.1 := by simp [sx_tot_app, sx_tot]
    have K : wL_law_145 post Lx xs (wL_law_98 post Lx xs x3 (nI n) (nI c) kc ks (M.length + 1)) x3 (nI n) (nI c) x7 (nI A.length) (nI (sx_tot A)) y.2 kc ks (nI n) (nI g) (nI c) fl hd bg a1 a2 a3 a4 a5 v1 v2 v3 v4 v5 v6 d1 d2 d3 d4 d5 := by
      refine br_f (h7 y M rfl) (sx_runOf h64 (by omega) (sx_runAt hr hc (by omega) (by omega) (by omega) (fun A' M' e' h1 h2 => ?_)))
      obtain ⟨rfl, rfl⟩ := sx_split_uniq (e'.symm.trans e) h1 h2 (Nat.le_refl _) (fun x N hx => by injection hx with hx1 hx2; rw [← hx1]; omega)
      refine br_t rfl (br_t (nI_lt (by omega) (by omega)) (nm_r (nI_1 _) ?_))
      have t := sx_l98 hp1 hn hSn h64 hl hr hcan hR hc hu M (A' ++ [y]) (nI (sx_tot A')) y.2 (nI (sx_tot A')) (by rw [e]; simp) hM.2.2 (by rw [l2]; exact nI_ge (by omega) (by omega)) (fun z N hz hzy => ?_)
      · rw [l1] at t
        exact t
      · have := hM.2.1
        rw [hz] at this
        exact this hzy.symm
    refine br_f (nI_ge (b := 64) (by omega) (by omega)) (br_f (nI_ge (by omega) (by omega)) ?_)
    refine sx_runBegin hr' rfl (by omega) (by omega) ?_
    refine sx_runStyle (by omega) (by omega) ?_
    rw [(sx_rn_at hr').2]
    refine br_f h6 (pk_eq A.length 0 (fun z => br_t ?_ K) (fun z => K))
    rw [List.length_eq_zero_iff.mp z]
    rfl
end
section
variable {Lx : Nat} {xs : Nat → Int32} {x3 : Int32} {kc ks : Nat}
theorem sx_end {post : Int32 → Prop} {L S : List Int32} {t1 t2 t3 t4 t5 t6 : Int32} {b1 b2 b3 b4 b5 : Nat → Int32} {v1 v2 v3 v4 v5 v6 : Int32} {d1 d2 d3 d4 d5 : Nat → Int32} (hp1 : post 1) (ht : sx_M L S (t1, t2, t3, t4, t5, t6, b1, b2, b3, b4, b5)) (hu : sx_M L S (v1, v2, v3, v4, v5, v6, d1, d2, d3, d4, d5)) :
    ∃ fu, wL_law_98 post Lx xs x3 t1 t3 kc ks fu (-1) (-1) 0 t1 t2 t3 t4 t5 t6 b1 b2 b3 b4 b5 v1 v2 v3 v4 v5 v6 d1 d2 d3 d4 d5 := by
  obtain ⟨g, c, fl, hd, bg, a1, a2, a3, a4, a5, e, h64, hSn, hl, hS, h0⟩ := ht
  obtain ⟨R, hr, hcan, hR, hc⟩ := hS
  injection e with e1 e
  injection e with e2 e
  injection e with e3 e
  injection e with e4 e
  injection e with e5 e
  injection e with e6 e
  injection e with e7 e
  injection e with e8 e
  injection e with e9 e
  injection e with e10 e11
  subst e1 e2 e3 e4 e5 e6 e7 e8 e9 e10 e11
  refine ⟨R.length + 1, sx_l98 hp1 rfl hSn h64 hl hr hcan hR hc hu R [] (-1) (-1) _ rfl hcan (by decide) (fun y N hy hy1 => ?_)⟩
  refine h0 y.2 ?_ (by rw [hy1]; decide)
  have hy0 : 0 < y.1 := by rw [hy] at hcan; exact hcan.1
  rw [← hR, hy]
  exact List.mem_append_left _ (List.mem_replicate.mpr ⟨by omega, rfl⟩)
theorem sx_l32 {post : Int32 → Prop} (hp1 : post 1) (hLx : Lx ≤ 260) :
    ∀ (d k : Nat) (L S : List Int32) (t1 t2 t3 t4 t5 t6 : Int32) (b1 b2 b3 b4 b5 : Nat → Int32) (v1 v2 v3 v4 v5 v6 : Int32) (d1 d2 d3 d4 d5 : Nat → Int32), Lx ≤ k + d → k ≤ 300 → sx_M L S (t1, t2, t3, t4, t5, t6, b1, b2, b3, b4, b5) → sx_M L S (v1, v2, v3, v4, v5, v6, d1, d2, d3, d4, d5) →
      wL_law_32 post Lx xs x3 kc ks (d + 1) (nI k) t1 t2 t3 t4 t5 t6 b1 b2 b3 b4 b5 v1 v2 v3 v4 v5 v6 d1 d2 d3 d4 d5 := by
  intro d
  induction d with
  | zero =>
    intro k L S t1 t2 t3 t4 t5 t6 b1 b2 b3 b4 b5 v1 v2 v3 v4 v5 v6 d1 d2 d3 d4 d5 hk hk3 ht hu
    exact pk_le Lx (k + 1) (fun _ => sx_end hp1 ht hu) (fun z => absurd z (by omega)) rfl (nI_1 k)
  | succ d ih =>
    intro k L S t1 t2 t3 t4 t5 t6 b1 b2 b3 b4 b5 v1 v2 v3 v4 v5 v6 d1 d2 d3 d4 d5 hk hk3 ht hu
    refine pk_le Lx (k + 1) (fun _ => sx_end hp1 ht hu) (fun z => ?_) rfl (nI_1 k)
    have i1 : vp_in (nI k) Lx := pk_in k Lx (by omega)
    have i2 : vp_in (nI k + 1) Lx := pk_in (k + 1) Lx (by omega) (nI_1 k)
    have hL : L.length ≤ 64 := by
      obtain ⟨_, _, _, _, _, _, _, _, _, _, _, h, _⟩ := ht
      exact h
    obtain ⟨L', S', hT⟩ := sx_turn L S hL (xs (nI k).toNatClampNeg) (xs (nI k + 1).toNatClampNeg)
    refine ⟨i1, i2, hT _ _ ht (fun r t' ht' => ?_)⟩
    obtain ⟨t1', t2', t3', t4', t5', t6', b1', b2', b3', b4', b5'⟩ := t'
    refine ⟨i1, i2, hT _ _ hu (fun r u' hu' => ?_)⟩
    obtain ⟨v1', v2', v3', v4', v5', v6', d1', d2', d3', d4', d5'⟩ := u'
    exact nm_r (show nI k + 2 = nI (k + 2) from nI_add k 2) (ih (k + 2) L' S' _ _ _ _ _ _ _ _ _ _ _ _ _ _ _ _ _ _ _ _ _ _ (by omega) (by omega) ht' hu')
end
theorem i_vc (xs : Nat → Int32) (L : Nat) (hL : L ≤ 260) : wpL_law (fun r => r = 1) L xs := by
  have h0 : sx_M [] [] (0, 0, 0, 0, 0, 0, (fun _ => 0), (fun _ => 0), (fun _ => 0), (fun _ => 0), (fun _ => 0)) :=
    ⟨0, 0, 0, 0, 0, _, _, _, _, _, rfl, by simp, rfl, ⟨[], [], rfl, rfl, trivial, trivial⟩, ⟨[], trivial, trivial, rfl, rfl⟩, fun s hs => nomatch hs⟩
  have K : ∀ (x3 : Int32) (kc ks : Nat), ∃ fu, wL_law_32 (fun r => r = 1) L xs x3 kc ks fu 1 0 0 0 0 0 0 (fun _ => 0) (fun _ => 0) (fun _ => 0) (fun _ => 0) (fun _ => 0) 0 0 0 0 0 0 (fun _ => 0) (fun _ => 0) (fun _ => 0) (fun _ => 0) (fun _ => 0) :=
    fun x3 kc ks => ⟨L + 1, sx_l32 (post := fun r => r = 1) rfl hL L 1 [] [] _ _ _ _ _ _ _ _ _ _ _ _ _ _ _ _ _ _ _ _ _ _ (by omega) (by omega) h0 h0⟩
  refine ⟨5, 328, by omega, by omega, by omega, by omega, by omega, by omega, by omega, by omega, by omega, by omega, by omega, by omega, ?_⟩
  refine ⟨by omega, by omega, 5, 328, by omega, by omega, by omega, by omega, by omega, by omega, by omega, by omega, by omega, by omega, by omega, by omega, ?_⟩
  refine pk_le L 0 (fun _ => K _ _ _) (fun z => ⟨pk_in 0 L z, nm_e (K _ _ _)⟩)
end

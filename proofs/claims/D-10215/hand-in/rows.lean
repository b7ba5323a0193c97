section
/-! pure: one set, its intervals, the squares that they fall into -/
/-- one set: c ascending intervals f .. l within 0 .. 255, at the places b .. of two arrays -/
def cu_S (a2 a3 : Nat → Int32) (b c : Nat) (f l : Nat → Nat) : Prop :=
  (∀ k, k < c → a2 (b + k) = nI (f k) ∧ a3 (b + k) = nI (l k) ∧ f k ≤ l k ∧ l k < 256) ∧ (∀ k, k + 1 < c → l k < f (k + 1))
theorem cu_mono {f l : Nat → Nat} {c : Nat} (h1 : ∀ k, k < c → f k ≤ l k) (h2 : ∀ k, k + 1 < c → l k < f (k + 1)) : ∀ k j, j < k → k < c → l j < f k := by
  intro k
  induction k with
  | zero => intro j hj; omega
  | succ k ih =>
    intro j hj hk
    rcases Nat.lt_or_ge j k with h | h
    · have p := ih j h (by omega)
      have q := h1 k (by omega)
      have r := h2 k hk
      omega
    · have e : j = k := by omega
      subst e
      exact h2 j hk
/-- the size of the largest whole square that begins at t and ends within b -/
def cu_la (t b : Nat) : Nat :=
  if t % 4 = 0 ∧ t + 3 ≤ b then (if t % 16 = 0 ∧ t + 15 ≤ b then (if t % 64 = 0 ∧ t + 63 ≤ b then (if t % 256 = 0 ∧ t + 255 ≤ b then 256 else 64) else 16) else 4) else 1
theorem cu_la_in (t b : Nat) (h : t ≤ b) : (cu_la t b = 1 ∨ cu_la t b = 4 ∨ cu_la t b = 16 ∨ cu_la t b = 64 ∨ cu_la t b = 256) ∧ t + cu_la t b ≤ b + 1 := by
  generalize hz : cu_la t b = z
  unfold cu_la at hz
  (repeat' split at hz) <;> omega
/-- the squares of t .. b, each with its size -/
def cu_pl (b : Nat) : Nat → Nat → List (Nat × Nat)
  | 0, _ => []
  | n + 1, t => if t ≤ b then (t, cu_la t b) :: cu_pl b n (t + cu_la t b) else []
theorem cu_pl_s {b n t : Nat} (h : t ≤ b) : cu_pl b (n + 1) t = (t, cu_la t b) :: cu_pl b n (t + cu_la t b) := if_pos h
theorem cu_pl_e {b n t : Nat} (h : b < t) : cu_pl b n t = [] := by
  cases n with
  | zero => rfl
  | succ n => exact if_neg (by omega)
theorem cu_pl_len (b : Nat) : ∀ n t, (cu_pl b n t).length ≤ n := by
  intro n
  induction n with
  | zero => intro t; exact Nat.le_refl 0
  | succ n ih =>
    intro t
    by_cases h : t ≤ b
    · rw [cu_pl_s h]
      exact Nat.succ_le_succ (ih _)
    · rw [cu_pl_e (by omega)]
      exact Nat.zero_le _
/-- the squares of d intervals from the i-th on -/
def cu_R (f l : Nat → Nat) : Nat → Nat → List (Nat × Nat)
  | 0, _ => []
  | d + 1, i => cu_pl (l i) 256 (f i) ++ cu_R f l d (i + 1)
theorem cu_R_len (f l : Nat → Nat) : ∀ d i, (cu_R f l d i).length ≤ 256 * d := by
  intro d
  induction d with
  | zero => intro i; exact Nat.le_refl 0
  | succ d ih =>
    intro i
    have h1 : (cu_R f l (d + 1) i).length = (cu_pl (l i) 256 (f i)).length + (cu_R f l d (i + 1)).length := List.length_append
    have h2 := cu_pl_len (l i) 256 (f i)
    have h3 := ih (i + 1)
    omega
/-- the cells of d intervals from the i-th on -/
def cu_T (f l : Nat → Nat) : Nat → Nat → Nat
  | 0, _ => 0
  | d + 1, i => (l i + 1 - f i) + cu_T f l d (i + 1)
def cu_z : List (Nat × Nat) → Nat
  | [] => 0
  | p :: r => p.2 + cu_z r
/-- each begins behind the end of the one before, and each is as Q says -/
def cu_C (Q : Nat → Nat → Prop) : Nat → List (Nat × Nat) → Prop
  | _, [] => True
  | e, p :: r => e ≤ p.1 ∧ Q p.1 p.2 ∧ cu_C Q (p.1 + p.2) r
theorem cu_C_w {Q : Nat → Nat → Prop} {e e' : Nat} (h : e ≤ e') {r : List (Nat × Nat)} (g : cu_C Q e' r) : cu_C Q e r := by
  cases r with
  | nil => exact trivial
  | cons p r => exact ⟨Nat.le_trans h g.1, g.2⟩
theorem cu_C_pl {Q : Nat → Nat → Prop} {b ft : Nat} {B : List (Nat × Nat)} (hQ : ∀ t, ft ≤ t → t ≤ b → Q t (cu_la t b)) (hB : cu_C Q (b + 1) B) :
    ∀ n t e, ft ≤ t → e ≤ t → t ≤ b + 1 → cu_C Q e (cu_pl b n t ++ B) := by
  intro n
  induction n with
  | zero =>
    intro t e hf he hb
    show cu_C Q e B
    exact cu_C_w (by omega) hB
  | succ n ih =>
    intro t e hf he hb
    by_cases h : t ≤ b
    · rw [cu_pl_s h]
      have g := cu_la_in t b h
      show cu_C Q e ((t, cu_la t b) :: (cu_pl b n (t + cu_la t b) ++ B))
      exact ⟨he, hQ t hf h, ih _ _ (by omega) (Nat.le_refl _) (by omega)⟩
    · rw [cu_pl_e (by omega)]
      show cu_C Q e B
      exact cu_C_w (by omega) hB
theorem cu_z_pl {b : Nat} {B : List (Nat × Nat)} : ∀ n t, t ≤ b + 1 → b + 1 ≤ t + n → cu_z (cu_pl b n t ++ B) = (b + 1 - t) + cu_z B := by
  intro n
  induction n with
  | zero =>
    intro t h1 h2
    show cu_z B = _
    omega
  | succ n ih =>
    intro t h1 h2
    by_cases h : t ≤ b
    · rw [cu_pl_s h]
      have g := cu_la_in t b h
      show cu_la t b + cu_z (cu_pl b n (t + cu_la t b) ++ B) = _
      rw [ih _ (by omega) (by omega)]
      omega
    · rw [cu_pl_e (by omega)]
      show cu_z B = _
      omega
theorem cu_z_R {f l : Nat → Nat} {c : Nat} (h : ∀ k, k < c → f k ≤ l k ∧ l k < 256) : ∀ d i, i + d = c → cu_z (cu_R f l d i) = cu_T f l d i := by
  intro d
  induction d with
  | zero => intro i _; rfl
  | succ d ih =>
    intro i hi
    have g := h i (by omega)
    show cu_z (cu_pl (l i) 256 (f i) ++ cu_R f l d (i + 1)) = (l i + 1 - f i) + cu_T f l d (i + 1)
    rw [cu_z_pl _ _ (by omega) (by omega), ih _ (by omega)]
theorem cu_C_R {Q : Nat → Nat → Prop} {f l : Nat → Nat} {c : Nat} (h1 : ∀ k, k < c → f k ≤ l k) (h2 : ∀ k, k + 1 < c → l k < f (k + 1))
    (hQ : ∀ k, k < c → ∀ t, f k ≤ t → t ≤ l k → Q t (cu_la t (l k))) : ∀ d i e, i + d = c → (0 < d → e ≤ f i) → cu_C Q e (cu_R f l d i) := by
  intro d
  induction d with
  | zero => intro i e _ _; exact trivial
  | succ d ih =>
    intro i e hi he
    have g := h1 i (by omega)
    have g2 := he (by omega)
    exact cu_C_pl (ft := f i) (hQ i (by omega)) (ih (i + 1) (l i + 1) (by omega) (fun hd => h2 i (by omega))) 256 (f i) e (Nat.le_refl _) g2 (by omega)
/-- small numbers are kept by the casts -/
theorem cu_s16 : ∀ v, v < 512 → (nI v).toInt16.toInt32 = nI v := by decide +kernel
theorem cu_s8 : ∀ v, v < 64 → (nI v).toInt8.toInt32 = nI v := by decide +kernel
theorem cu_n16 {v : Nat} (h : v < 512) : vp_nar .short (nI v) = nI v := by rw [vp_nar_short]; exact cu_s16 v h
end
section
section
variable {m x y : Int32} {a1 a2 a3 a4 a5 : Nat → Int32}
theorem cu_isSet {post : Int32 → Prop} {p0 : Int32} (s : Nat) (hs : s < 4) (H : post 1) (h0 : p0 = nI s := by rfl) : wpX_isSet post (m, x, y, a1, a2, a3, a4, a5) p0 :=
  pk_lt s 0 (fun g => absurd g (by omega)) (fun _ => pk_lt 3 s (fun g => absurd g (by omega)) (fun _ => H) rfl h0) h0
theorem cu_lst {post : Int32 → Prop} {t b z n : Nat} (ht : t < 256) (hb : b < 256) (h0 : 0 < z) (hz : z < 256)
    (H1 : t % (4 * z) = 0 → t + 4 * z ≤ b + 1 → wX_largestAt_2 post (nI t) (nI b) m x y a1 a2 a3 a4 a5 n (nI (z * 4)))
    (H2 : ¬ (t % (4 * z) = 0 ∧ t + 4 * z ≤ b + 1) → post (nI z)) :
    wX_largestAt_2 post (nI t) (nI b) m x y a1 a2 a3 a4 a5 (n + 1) (nI z) := by
  have e4 : (4 : Int32) * nI z = nI (4 * z) := pk_mul 4 z
  have er : nI t - nI t / (4 * nI z) * (4 * nI z) = nI (t % (4 * z)) := by
    rw [e4]
    exact pk_rem (by omega) (by omega) (by omega)
  have es : nI t + 4 * nI z - 1 = nI (t + 4 * z - 1) := by
    rw [e4, nI_add]
    exact pk_sub (b := 1) (by omega)
  have hm : t % (4 * z) < 2 ^ 31 := Nat.lt_of_le_of_lt (Nat.mod_le _ _) (by omega)
  refine pk_le 256 z (fun g => absurd g (by omega)) (fun _ => ⟨?_, ?_⟩)
  · rw [e4]
    exact nI_ne0 (by omega) (by omega)
  · exact pk_eq (t % (4 * z)) 0 (fun g => pk_lt b (t + 4 * z - 1) (fun g2 => H2 (fun q => absurd q.2 (by omega))) (fun g2 => nm_r (pk_mul z 4) (H1 g (by omega))) rfl es) (fun g => H2 (fun q => g q.1)) er rfl hm (by omega)
theorem cu_largest {post : Int32 → Prop} {p0 p1 : Int32} (t b : Nat) (ht : t < 256) (hb : b < 256) (H : post (nI (cu_la t b))) (h0 : p0 = nI t := by rfl) (h1 : p1 = nI b := by rfl) :
    wpX_largestAt post (m, x, y, a1, a2, a3, a4, a5) p0 p1 := by
  subst h0 h1
  refine ⟨5, ?_⟩
  refine cu_lst (z := 1) ht hb (by omega) (by omega) (fun c1 d1 => ?_) (fun c => ?_)
  · refine cu_lst (z := 4) ht hb (by omega) (by omega) (fun c2 d2 => ?_) (fun c => ?_)
    · refine cu_lst (z := 16) ht hb (by omega) (by omega) (fun c3 d3 => ?_) (fun c => ?_)
      · refine cu_lst (z := 64) ht hb (by omega) (by omega) (fun c4 d4 => ?_) (fun c => ?_)
        · have e : cu_la t b = 256 := by
            unfold cu_la
            (repeat' split) <;> omega
          rw [e] at H
          exact pk_le 256 256 (fun _ => H) (fun g => absurd g (by omega))
        · have e : cu_la t b = 64 := by
            unfold cu_la
            (repeat' split) <;> omega
          rw [e] at H
          exact H
      · have e : cu_la t b = 16 := by
          unfold cu_la
          (repeat' split) <;> omega
        rw [e] at H
        exact H
    · have e : cu_la t b = 4 := by
        unfold cu_la
        (repeat' split) <;> omega
      rw [e] at H
      exact H
  · have e : cu_la t b = 1 := by
      unfold cu_la
      (repeat' split) <;> omega
    rw [e] at H
    exact H
/-- the level of a size -/
def cu_lv (z : Nat) : Nat := if z = 1 then 4 else if z = 4 then 3 else if z = 16 then 2 else if z = 64 then 1 else 0
theorem cu_lvs {post : Int32 → Prop} {v z n : Nat} (hz : 1 < z) (hz2 : z < 1000) (H : wX_levelOf_4 post m x y a1 a2 a3 a4 a5 n (nI v) (nI (z / 4))) :
    wX_levelOf_4 post m x y a1 a2 a3 a4 a5 (n + 1) (nI (v + 1)) (nI z) :=
  pk_le z 1 (fun g => absurd g (by omega)) (fun _ => ⟨by decide, nm_r (pk_div (d := 4) (by omega) (by omega) (by omega)) (nm_r (pk_m1 v) H)⟩)
theorem cu_level {post : Int32 → Prop} (z : Nat) (hz : z = 1 ∨ z = 4 ∨ z = 16 ∨ z = 64 ∨ z = 256) (H : post (nI (cu_lv z))) : wpX_levelOf post (m, x, y, a1, a2, a3, a4, a5) (nI z) := by
  rcases hz with rfl | rfl | rfl | rfl | rfl
  · exact ⟨1, pk_le 1 1 (fun _ => H) (fun g => absurd g (by omega))⟩
  · exact ⟨2, cu_lvs (v := 3) (z := 4) (by omega) (by omega) (pk_le 1 1 (fun _ => H) (fun g => absurd g (by omega)))⟩
  · exact ⟨3, cu_lvs (v := 3) (z := 16) (by omega) (by omega) (cu_lvs (v := 2) (z := 4) (by omega) (by omega) (pk_le 1 1 (fun _ => H) (fun g => absurd g (by omega))))⟩
  · exact ⟨4, cu_lvs (v := 3) (z := 64) (by omega) (by omega) (cu_lvs (v := 2) (z := 16) (by omega) (by omega) (cu_lvs (v := 1) (z := 4) (by omega) (by omega) (pk_le 1 1 (fun _ => H) (fun g => absurd g (by omega)))))⟩
  · exact ⟨5, cu_lvs (v := 3) (z := 256) (by omega) (by omega) (cu_lvs (v := 2) (z := 64) (by omega) (by omega) (cu_lvs (v := 1) (z := 16) (by omega) (by omega) (cu_lvs (v := 0) (z := 4) (by omega) (by omega) (pk_le 1 1 (fun _ => H) (fun g => absurd g (by omega))))))⟩
theorem cu_pieces40 {post : Int32 → Prop} {J : Int32 → Int32 → Prop} {x1 : Int32} {k b : Nat} (hk : k < 200) (hb : a3 k = nI b) (hb2 : b < 256) :
    ∀ n0 t tot, t ≤ b + 1 → b + 1 ≤ t + n0 → J (nI (tot + (cu_pl b n0 t).length)) (nI (k + 1)) → ∃ fu, wX_pieces_40 post J x1 (nI k) m x y a1 a2 a3 a4 a5 fu (nI tot) (nI t) := by
  have e : a3 (nI k).toNatClampNeg = nI b := by
    rw [nI_clamp (by omega)]
    exact hb
  have stop : ∀ n0 t tot, t = b + 1 → J (nI (tot + (cu_pl b n0 t).length)) (nI (k + 1)) → ∃ fu, wX_pieces_40 post J x1 (nI k) m x y a1 a2 a3 a4 a5 fu (nI tot) (nI t) := by
    intro n0 t tot ht H
    rw [cu_pl_e (by omega)] at H
    have H' : J (nI tot) (nI (k + 1)) := H
    exact ⟨1, pk_in k 200 hk, pk_lt b t (fun _ => nm_r (nI_1 k) H') (fun g => absurd g (by omega)) e⟩
  intro n0
  induction n0 with
  | zero =>
    intro t tot h1 h2 H
    exact stop 0 t tot (by omega) H
  | succ n0 ih =>
    intro t tot h1 h2 H
    by_cases h : t ≤ b
    · have g := cu_la_in t b h
      rw [cu_pl_s h, List.length_cons, ← Nat.add_assoc, Nat.add_right_comm] at H
      obtain ⟨fu, hf⟩ := ih (t + cu_la t b) (tot + 1) (by omega) (by omega) H
      exact ⟨fu + 1, pk_in k 200 hk, pk_lt b t (fun z => absurd z (by omega)) (fun _ => ⟨pk_in k 200 hk, cu_largest t b (by omega) (by omega) (nm_r (nI_add _ _) (nm_r (nI_1 _) hf)) rfl e⟩) e⟩
    · exact stop (n0 + 1) t tot (by omega) H
theorem cu_pieces17 {post : Int32 → Prop} {s c : Nat} {f l : Nat → Nat} (hs : s < 4) (hc : c ≤ 40) (h1 : a1 s = nI c) (h : cu_S a2 a3 (40 * s) c f l) :
    ∀ d i tot, i + d = c → post (nI (tot + (cu_R f l d i).length)) → ∃ fu, wX_pieces_17 post (nI s) m x y a1 a2 a3 a4 a5 fu (nI tot) (nI (40 * s + i)) := by
  have e1 : 40 * nI s + a1 (nI s).toNatClampNeg = nI (40 * s + c) := by
    rw [nI_clamp (by omega), h1, show (40 : Int32) * nI s = nI (40 * s) from pk_mul 40 s, nI_add]
  intro d
  induction d with
  | zero =>
    intro i tot hi H
    have H' : post (nI tot) := H
    exact ⟨1, pk_in s 5 (by omega), pk_le (40 * s + c) (40 * s + i) (fun _ => H') (fun g => absurd g (by omega)) e1⟩
  | succ d ih =>
    intro i tot hi H
    obtain ⟨g2, g3, g4, g5⟩ := h.1 i (by omega)
    have e2 : a2 (nI (40 * s + i)).toNatClampNeg = nI (f i) := by
      rw [nI_clamp (by omega)]
      exact g2
    have hl : (cu_R f l (d + 1) i).length = (cu_pl (l i) 256 (f i)).length + (cu_R f l d (i + 1)).length := List.length_append
    rw [hl, ← Nat.add_assoc] at H
    obtain ⟨fu, hf⟩ := ih (i + 1) (tot + (cu_pl (l i) 256 (f i)).length) (by omega) H
    rw [← Nat.add_assoc] at hf
    exact ⟨fu + 1, pk_in s 5 (by omega), pk_le (40 * s + c) (40 * s + i) (fun g => absurd g (by omega)) (fun _ => ⟨pk_in (40 * s + i) 200 (by omega), nm_r e2 (cu_pieces40 (by omega) g3 g5 256 (f i) tot (by omega) (by omega) hf)⟩) e1⟩
theorem cu_pieces {post : Int32 → Prop} {s c : Nat} {f l : Nat → Nat} (hs : s < 4) (hc : c ≤ 40) (h1 : a1 s = nI c) (h : cu_S a2 a3 (40 * s) c f l)
    (H : post (nI (cu_R f l c 0).length)) : wpX_pieces post (m, x, y, a1, a2, a3, a4, a5) (nI s) := by
  unfold wpX_pieces
  refine cu_isSet s hs (br_f (by decide) (nm_r (pk_mul 40 s) (cu_pieces17 hs hc h1 h c 0 0 (by omega) ?_)))
  rw [Nat.zero_add]
  exact H
theorem cu_piece43 {post : Int32 → Prop} {J : Int32 → Int32 → Prop} {x1 : Int32} {k b : Nat} (hk : k < 200) (hb : a3 k = nI b) (hb2 : b < 256) :
    ∀ n0 t left, left < 2 ^ 31 → t ≤ b + 1 → b + 1 ≤ t + n0 → (∀ p, (cu_pl b n0 t)[left]? = some p → post (nI (256 * cu_lv p.2 + p.1))) →
      ((cu_pl b n0 t).length ≤ left → J (nI (left - (cu_pl b n0 t).length)) (nI (k + 1))) → ∃ fu, wX_piece_43 post J x1 (nI k) m x y a1 a2 a3 a4 a5 fu (nI left) (nI t) := by
  have e : a3 (nI k).toNatClampNeg = nI b := by
    rw [nI_clamp (by omega)]
    exact hb
  have stop : ∀ n0 t left, t = b + 1 → ((cu_pl b n0 t).length ≤ left → J (nI (left - (cu_pl b n0 t).length)) (nI (k + 1))) → ∃ fu, wX_piece_43 post J x1 (nI k) m x y a1 a2 a3 a4 a5 fu (nI left) (nI t) := by
    intro n0 t left ht H
    rw [cu_pl_e (by omega)] at H
    have H' : J (nI left) (nI (k + 1)) := H (Nat.zero_le _)
    exact ⟨1, pk_in k 200 hk, pk_lt b t (fun _ => nm_r (nI_1 k) H') (fun g => absurd g (by omega)) e⟩
  intro n0
  induction n0 with
  | zero =>
    intro t left h0 h1 h2 _ H
    exact stop 0 t left (by omega) H
  | succ n0 ih =>
    intro t left h0 h1 h2 H1 H2
    by_cases h : t ≤ b
    · have g := cu_la_in t b h
      rw [cu_pl_s h] at H1 H2
      cases left with
      | zero =>
        have q : post (nI (256 * cu_lv (cu_la t b) + t)) := H1 (t, cu_la t b) rfl
        have q2 : (256 : Int32) * nI (cu_lv (cu_la t b)) + nI t = nI (256 * cu_lv (cu_la t b) + t) := by
          rw [show (256 : Int32) * nI (cu_lv (cu_la t b)) = nI (256 * cu_lv (cu_la t b)) from pk_mul 256 _, nI_add]
        rw [← q2] at q
        exact ⟨1, pk_in k 200 hk, pk_lt b t (fun z => absurd z (by omega)) (fun _ => ⟨pk_in k 200 hk, cu_largest t b (by omega) (by omega) (pk_eq 0 0 (fun _ => cu_level (cu_la t b) g.1 q) (fun z => absurd rfl z)) rfl e⟩) e⟩
      | succ left =>
        obtain ⟨fu, hf⟩ := ih (t + cu_la t b) left (by omega) (by omega) (by omega) (fun p hp => H1 p hp) (fun z => by
          have q := H2 (by rw [List.length_cons]; omega)
          rw [List.length_cons, Nat.add_sub_add_right] at q
          exact q)
        exact ⟨fu + 1, pk_in k 200 hk, pk_lt b t (fun z => absurd z (by omega)) (fun _ => ⟨pk_in k 200 hk, cu_largest t b (by omega) (by omega) (pk_eq (left + 1) 0 (fun z => absurd z (by omega)) (fun _ => nm_r (pk_m1 left) (nm_r (nI_add _ _) hf))) rfl e⟩) e⟩
    · exact stop (n0 + 1) t left (by omega) H2
theorem cu_piece18 {post : Int32 → Prop} {s c : Nat} {f l : Nat → Nat} (hs : s < 4) (hc : c ≤ 40) (h1 : a1 s = nI c) (h : cu_S a2 a3 (40 * s) c f l) :
    ∀ d i left, left < 2 ^ 31 → i + d = c → (∀ p, (cu_R f l d i)[left]? = some p → post (nI (256 * cu_lv p.2 + p.1))) → ((cu_R f l d i).length ≤ left → post (-3)) →
      ∃ fu, wX_piece_18 post (nI s) m x y a1 a2 a3 a4 a5 fu (nI left) (nI (40 * s + i)) := by
  have e1 : 40 * nI s + a1 (nI s).toNatClampNeg = nI (40 * s + c) := by
    rw [nI_clamp (by omega), h1, show (40 : Int32) * nI s = nI (40 * s) from pk_mul 40 s, nI_add]
  intro d
  induction d with
  | zero =>
    intro i left h0 hi _ H2
    have H' : post (-3) := H2 (Nat.zero_le _)
    exact ⟨1, pk_in s 5 (by omega), pk_le (40 * s + c) (40 * s + i) (fun _ => H') (fun g => absurd g (by omega)) e1⟩
  | succ d ih =>
    intro i left h0 hi H1 H2
    obtain ⟨g2, g3, g4, g5⟩ := h.1 i (by omega)
    have e2 : a2 (nI (40 * s + i)).toNatClampNeg = nI (f i) := by
      rw [nI_clamp (by omega)]
      exact g2
    have hl : cu_R f l (d + 1) i = cu_pl (l i) 256 (f i) ++ cu_R f l d (i + 1) := rfl
    rw [hl] at H1 H2
    by_cases hp : left < (cu_pl (l i) 256 (f i)).length
    · exact ⟨1, pk_in s 5 (by omega), pk_le (40 * s + c) (40 * s + i) (fun g => absurd g (by omega)) (fun _ => ⟨pk_in (40 * s + i) 200 (by omega), nm_r e2 (cu_piece43 (by omega) g3 g5 256 (f i) left h0 (by omega) (by omega) (fun p hq => H1 p (by rw [List.getElem?_append_left hp]; exact hq)) (fun q => absurd q (by omega)))⟩) e1⟩
    · obtain ⟨fu, hf⟩ := ih (i + 1) (left - (cu_pl (l i) 256 (f i)).length) (by omega) (by omega) (fun p hq => H1 p (by rw [List.getElem?_append_right (by omega)]; exact hq)) (fun q => H2 (by rw [List.length_append]; omega))
      rw [← Nat.add_assoc] at hf
      exact ⟨fu + 1, pk_in s 5 (by omega), pk_le (40 * s + c) (40 * s + i) (fun g => absurd g (by omega)) (fun _ => ⟨pk_in (40 * s + i) 200 (by omega), nm_r e2 (cu_piece43 (by omega) g3 g5 256 (f i) left h0 (by omega) (by omega) (fun p hq => by rw [List.getElem?_eq_none (by omega)] at hq; cases hq) (fun _ => hf))⟩) e1⟩
theorem cu_piece {post : Int32 → Prop} {s c k : Nat} {f l : Nat → Nat} (hs : s < 4) (hc : c ≤ 40) (h1 : a1 s = nI c) (h : cu_S a2 a3 (40 * s) c f l) (hk : k < 2 ^ 31)
    (H1 : ∀ p, (cu_R f l c 0)[k]? = some p → post (nI (256 * cu_lv p.2 + p.1))) (H2 : (cu_R f l c 0).length ≤ k → post (-3)) : wpX_piece post (m, x, y, a1, a2, a3, a4, a5) (nI s) (nI k) := by
  unfold wpX_piece
  exact cu_isSet s hs (br_f (by decide) (nm_r (pk_mul 40 s) (cu_piece18 hs hc h1 h c 0 k hk (by omega) H1 H2)))
theorem cu_cells17 {post : Int32 → Prop} {s c : Nat} {f l : Nat → Nat} (hs : s < 4) (hc : c ≤ 40) (h1 : a1 s = nI c) (h : cu_S a2 a3 (40 * s) c f l) :
    ∀ d i tot, i + d = c → post (nI (tot + cu_T f l d i)) → ∃ fu, wX_cells_17 post (nI s) m x y a1 a2 a3 a4 a5 fu (nI tot) (nI (40 * s + i)) := by
  have e1 : 40 * nI s + a1 (nI s).toNatClampNeg = nI (40 * s + c) := by
    rw [nI_clamp (by omega), h1, show (40 : Int32) * nI s = nI (40 * s) from pk_mul 40 s, nI_add]
  intro d
  induction d with
  | zero =>
    intro i tot hi H
    have H' : post (nI tot) := H
    exact ⟨1, pk_in s 5 (by omega), pk_le (40 * s + c) (40 * s + i) (fun _ => H') (fun g => absurd g (by omega)) e1⟩
  | succ d ih =>
    intro i tot hi H
    obtain ⟨g2, g3, g4, g5⟩ := h.1 i (by omega)
    have e2 : nI tot + ((a3 (nI (40 * s + i)).toNatClampNeg - a2 (nI (40 * s + i)).toNatClampNeg) + 1) = nI (tot + (l i + 1 - f i)) := by
      rw [nI_clamp (by omega), g2, g3, pk_sub g4, nI_1, nI_add, show l i - f i + 1 = l i + 1 - f i by omega]
    have hl : cu_T f l (d + 1) i = (l i + 1 - f i) + cu_T f l d (i + 1) := rfl
    rw [hl, ← Nat.add_assoc] at H
    obtain ⟨fu, hf⟩ := ih (i + 1) (tot + (l i + 1 - f i)) (by omega) H
    rw [← Nat.add_assoc] at hf
    exact ⟨fu + 1, pk_in s 5 (by omega), pk_le (40 * s + c) (40 * s + i) (fun g => absurd g (by omega)) (fun _ => ⟨pk_in (40 * s + i) 200 (by omega), pk_in (40 * s + i) 200 (by omega), nm_r e2 (nm_r (nI_1 _) hf)⟩) e1⟩
theorem cu_cells {post : Int32 → Prop} {s c : Nat} {f l : Nat → Nat} (hs : s < 4) (hc : c ≤ 40) (h1 : a1 s = nI c) (h : cu_S a2 a3 (40 * s) c f l)
    (H : post (nI (cu_T f l c 0))) : wpX_cells post (m, x, y, a1, a2, a3, a4, a5) (nI s) := by
  unfold wpX_cells
  refine cu_isSet s hs (br_f (by decide) (nm_r (pk_mul 40 s) (cu_cells17 hs hc h1 h c 0 0 (by omega) ?_)))
  rw [Nat.zero_add]
  exact H
end
end
section
section
variable {m x y : Int32} {a1 a2 a3 a4 a5 : Nat → Int32}
/-! find: four steps, each on ints -/
def cu_fa (r : Int32) : Int32 := (r >>> ((1 : Int32) &&& 31)) &&& 1
def cu_fb (r : Int32) : Int32 := (r ^^^ cu_fa r) &&& 1
def cu_fX (r w X Y : Int32) : Int32 := (if cu_fb r = 0 then (if cu_fa r = 0 then Y else (w - 1) - Y) else X) + w * cu_fa r
def cu_fY (r w X Y : Int32) : Int32 := (if cu_fb r = 0 then (if cu_fa r = 0 then X else (w - 1) - X) else Y) + w * cu_fb r
def cu_F : Nat → Int32 → Int32 → Int32 → Int32 → Int32 × Int32
  | 0, _, _, X, Y => (X, Y)
  | k + 1, r, w, X, Y => cu_F k (r >>> ((2 : Int32) &&& 31)) (w * 2) (cu_fX r w X Y) (cu_fY r w X Y)
theorem cu_find_s {post : St1 → Prop} {n : Nat} {r w X Y : Int32} (hw : ¬ 16 ≤ w)
    (h : wX_find_14 post m a1 a2 a3 a4 a5 n (r >>> ((2 : Int32) &&& 31)) (w * 2) (cu_fX r w X Y) (cu_fY r w X Y)) : wX_find_14 post m a1 a2 a3 a4 a5 (n + 1) r w X Y := by
  unfold cu_fX cu_fY at h
  by_cases hb : cu_fb r = 0
  · rw [if_pos hb, if_pos hb] at h
    by_cases ha : cu_fa r = 0
    · rw [if_pos ha, if_pos ha] at h
      exact br_f hw (nm_e (nm_e (br_t hb (br_t ha (br_t ha (nm_e (nm_e (nm_e (nm_e h)))))))))
    · rw [if_neg ha, if_neg ha] at h
      exact br_f hw (nm_e (nm_e (br_t hb (br_f ha (br_f ha (nm_e (nm_e (nm_e (nm_e h)))))))))
  · rw [if_neg hb, if_neg hb] at h
    exact br_f hw (nm_e (nm_e (br_f hb (nm_e (nm_e (nm_e (nm_e h)))))))
theorem cu_find {post : St1 → Prop} {p0 : Int32} (H : post (m, (cu_F 4 p0 1 0 0).1, (cu_F 4 p0 1 0 0).2, a1, a2, a3, a4, a5)) : wpX_find post (m, x, y, a1, a2, a3, a4, a5) p0 :=
  ⟨5, cu_find_s (by decide) (cu_find_s (by decide) (cu_find_s (by decide) (cu_find_s (by decide) (br_t (by decide) H))))⟩
/-- the cell of a number, as place answers it -/
def cu_p (r : Int32) : Int32 := (16 * (cu_F 4 r 1 0 0).1) + (cu_F 4 r 1 0 0).2
theorem cu_place {post : Int32 → St1 → Prop} {p0 : Int32} (n : Nat) (hn : n < 256) (H : ∀ X Y, post (cu_p (nI n)) (m, X, Y, a1, a2, a3, a4, a5)) (h0 : p0 = nI n := by rfl) :
    wpX_place post (m, x, y, a1, a2, a3, a4, a5) p0 := by
  subst h0
  exact pk_lt n 0 (fun g => absurd g (by omega)) (fun _ => pk_le n 255 (fun _ => cu_find (H _ _)) (fun g => absurd g (by omega)))
/-! numberOf: four steps -/
def cu_a (p w : Int32) : Int32 := if p &&& w = 0 then 0 else 1
def cu_np (p q w : Int32) : Int32 := if cu_a q w = 1 then p else (if cu_a p w = 0 then q else 15 - q)
def cu_nq (p q w : Int32) : Int32 := if cu_a q w = 1 then q else (if cu_a p w = 0 then p else 15 - p)
def cu_N : Nat → Int32 → Int32 → Int32 → Int32 → Int32
  | 0, _, _, v, _ => v
  | k + 1, p, q, v, w => cu_N k (cu_np p q w) (cu_nq p q w) ((4 * v) + ((3 * cu_a p w) ^^^ cu_a q w)) (w / 2)
theorem cu_num44 {post : Int32 → Prop} {J : Int32 → Int32 → Int32 → Int32 → Prop} {p q v w a b : Int32}
    (h : J (if b = 1 then p else (if a = 0 then q else 15 - q)) (if b = 1 then q else (if a = 0 then p else 15 - p)) ((4 * v) + ((3 * a) ^^^ b)) (w / 2)) :
    wX_numberOf_44 post J p q v w a b m x y a1 a2 a3 a4 a5 := by
  by_cases hb : b = 1
  · rw [if_pos hb, if_pos hb] at h
    exact nm_e (br_t hb ⟨by decide, nm_e h⟩)
  · rw [if_neg hb, if_neg hb] at h
    by_cases ha : a = 0
    · rw [if_pos ha, if_pos ha] at h
      exact nm_e (br_f hb (br_t ha (br_t ha ⟨by decide, nm_e h⟩)))
    · rw [if_neg ha, if_neg ha] at h
      exact nm_e (br_f hb (br_f ha (br_f ha (nm_e ⟨by decide, nm_e h⟩))))
theorem cu_num_s {post : Int32 → Prop} {n : Nat} {p q v w : Int32} (hw : ¬ w ≤ 0)
    (h : wX_numberOf_12 post m x y a1 a2 a3 a4 a5 n (cu_np p q w) (cu_nq p q w) ((4 * v) + ((3 * cu_a p w) ^^^ cu_a q w)) (w / 2)) : wX_numberOf_12 post m x y a1 a2 a3 a4 a5 (n + 1) p q v w := by
  unfold cu_np cu_nq at h
  have h' := cu_num44 (post := post) (m := m) (x := x) (y := y) (a1 := a1) (a2 := a2) (a3 := a3) (a4 := a4) (a5 := a5) h
  refine br_f hw ?_
  by_cases hp : p &&& w = 0
  · rw [show cu_a p w = 0 from if_pos hp] at h'
    refine br_t hp ?_
    by_cases hq : q &&& w = 0
    · rw [show cu_a q w = 0 from if_pos hq] at h'
      exact br_t hq h'
    · rw [show cu_a q w = 1 from if_neg hq] at h'
      exact br_f hq h'
  · rw [show cu_a p w = 1 from if_neg hp] at h'
    refine br_f hp ?_
    by_cases hq : q &&& w = 0
    · rw [show cu_a q w = 0 from if_pos hq] at h'
      exact br_t hq h'
    · rw [show cu_a q w = 1 from if_neg hq] at h'
      exact br_f hq h'
theorem cu_number {post : Int32 → Prop} {p q : Int32} (H : post (cu_N 4 p q 0 8)) : wpX_numberOf post (m, x, y, a1, a2, a3, a4, a5) p q :=
  ⟨5, cu_num_s (by decide) (cu_num_s (by decide) (cu_num_s (by decide) (cu_num_s (by decide) (br_t (by decide) H))))⟩
theorem cu_a01 (p w : Int32) : cu_a p w = 0 ∨ cu_a p w = 1 := by
  unfold cu_a
  split
  · exact Or.inl rfl
  · exact Or.inr rfl
theorem cu_N_in : ∀ k p q v w, ∃ r, r < (v + 1) * 4 ^ k ∧ cu_N k p q (nI v) w = nI r := by
  intro k
  induction k with
  | zero => intro p q v w; exact ⟨v, by omega, rfl⟩
  | succ k ih =>
    intro p q v w
    have key : ∃ d, d ≤ 3 ∧ (4 * nI v) + ((3 * cu_a p w) ^^^ cu_a q w) = nI (4 * v + d) := by
      have e4 : (4 : Int32) * nI v = nI (4 * v) := pk_mul 4 v
      rcases cu_a01 p w with h1 | h1 <;> rcases cu_a01 q w with h2 | h2 <;> rw [h1, h2, e4]
      · exact ⟨0, by omega, by rw [show (3 : Int32) * 0 ^^^ 0 = nI 0 by decide, nI_add]⟩
      · exact ⟨1, by omega, by rw [show (3 : Int32) * 0 ^^^ 1 = nI 1 by decide, nI_add]⟩
      · exact ⟨3, by omega, by rw [show (3 : Int32) * 1 ^^^ 0 = nI 3 by decide, nI_add]⟩
      · exact ⟨2, by omega, by rw [show (3 : Int32) * 1 ^^^ 1 = nI 2 by decide, nI_add]⟩
    obtain ⟨d, hd, e⟩ := key
    obtain ⟨r, hr, er⟩ := ih (cu_np p q w) (cu_nq p q w) (4 * v + d) (w / 2)
    refine ⟨r, ?_, ?_⟩
    · have h1 : (4 * v + d + 1) * 4 ^ k ≤ (4 * v + 4) * 4 ^ k := Nat.mul_le_mul_right _ (by omega)
      have h2 : (v + 1) * 4 ^ (k + 1) = (4 * v + 4) * 4 ^ k := by
        rw [Nat.pow_succ, Nat.mul_comm (4 ^ k) 4, ← Nat.mul_assoc]
        congr 1
        omega
      omega
    · show cu_N k (cu_np p q w) (cu_nq p q w) ((4 * nI v) + ((3 * cu_a p w) ^^^ cu_a q w)) (w / 2) = nI r
      rw [e]
      exact er
theorem cu_N_lt (p q : Int32) : ∃ r, r < 256 ∧ cu_N 4 p q 0 8 = nI r := cu_N_in 4 p q 0 8
/-- a cell: two ints of 0 .. 15 -/
def cu_cell (p q : Int32) : Prop := ¬ p < 0 ∧ ¬ 15 < p ∧ ¬ q < 0 ∧ ¬ 15 < q
theorem cu_isCell {post : Int32 → Prop} {p q : Int32} (h : cu_cell p q) (H : post 1) : wpX_isCell post (m, x, y, a1, a2, a3, a4, a5) p q :=
  br_f h.1 (br_f h.2.1 (br_f h.2.2.1 (br_f h.2.2.2 H)))
theorem cu_pubnum {post : Int32 → Prop} {p q : Int32} (h : cu_cell p q) (H : post (cu_N 4 p q 0 8)) : wpX_number post (m, x, y, a1, a2, a3, a4, a5) p q := by
  unfold wpX_number
  exact cu_isCell h (br_f (by decide) (cu_number H))
/-! the tables -/
theorem cu_d1 : ∀ n, n < 256 → ¬ cu_p (nI n) >>> ((4 : Int32) &&& 31) < 0 ∧ ¬ 15 < cu_p (nI n) >>> ((4 : Int32) &&& 31) ∧ ¬ cu_p (nI n) &&& 15 < 0 ∧ ¬ 15 < cu_p (nI n) &&& 15 := by decide +kernel
theorem cu_d2 : ∀ n, n < 256 → cu_N 4 (cu_p (nI n) >>> ((4 : Int32) &&& 31)) (cu_p (nI n) &&& 15) 0 8 = nI n := by decide +kernel
theorem cu_d3 : ∀ n, n < 256 → ¬ nI n >>> ((4 : Int32) &&& 31) < 0 ∧ ¬ 15 < nI n >>> ((4 : Int32) &&& 31) ∧ ¬ nI n &&& 15 < 0 ∧ ¬ 15 < nI n &&& 15 := by decide +kernel
theorem cu_d4 : ∀ n, n < 256 → cu_p (cu_N 4 (nI n >>> ((4 : Int32) &&& 31)) (nI n &&& 15) 0 8) = nI n := by decide +kernel
theorem cu_d5 : ∀ n, n < 255 → (cu_p (nI (n + 1)) >>> ((4 : Int32) &&& 31) - cu_p (nI n) >>> ((4 : Int32) &&& 31)) * (cu_p (nI (n + 1)) >>> ((4 : Int32) &&& 31) - cu_p (nI n) >>> ((4 : Int32) &&& 31)) + ((cu_p (nI (n + 1)) &&& 15) - (cu_p (nI n) &&& 15)) * ((cu_p (nI (n + 1)) &&& 15) - (cu_p (nI n) &&& 15)) = 1 := by decide +kernel
theorem cu_d6 : (cu_p (nI 0) >>> ((4 : Int32) &&& 31) - cu_p (nI 0) >>> ((4 : Int32) &&& 31)) * (cu_p (nI 0) >>> ((4 : Int32) &&& 31) - cu_p (nI 0) >>> ((4 : Int32) &&& 31)) + ((cu_p (nI 0) &&& 15) - (cu_p (nI 0) &&& 15)) * ((cu_p (nI 0) &&& 15) - (cu_p (nI 0) &&& 15)) = 0 := by decide +kernel
end
end
section
section
variable {m x y : Int32} {a1 a2 a3 a4 a5 : Nat → Int32}
theorem cu_has44 {post : Int32 → Prop} {s c kk v : Nat} {f l : Nat → Nat} (hs : s < 4) (hc : c ≤ 40) (h1 : a1 s = nI c) (h : cu_S a2 a3 (40 * s) c f l)
    (hk : kk < c) (hv : f kk ≤ v) (hv2 : v ≤ l kk) (H : post 1) :
    ∀ w lo hi, hi - lo < w → lo ≤ kk → kk ≤ hi → hi ≤ c → wX_has_44 post (nI s) (nI v) m x y a1 a2 a3 a4 a5 w (nI (40 * s + lo)) (nI (40 * s + hi)) := by
  have e1 : 40 * nI s + a1 (nI s).toNatClampNeg = nI (40 * s + c) := by
    rw [nI_clamp (by omega), h1, show (40 : Int32) * nI s = nI (40 * s) from pk_mul 40 s, nI_add]
  have mono := cu_mono (fun k hk => (h.1 k hk).2.2.1) h.2
  have hl := (h.1 kk hk).2.2.2
  intro w
  induction w with
  | zero => intro lo hi hw; omega
  | succ w ih =>
    intro lo hi hw h2 h3 h4
    refine pk_le (40 * s + hi) (40 * s + lo) (fun g => ?_) (fun g => ?_)
    · have e : lo = kk := by omega
      subst e
      have e2 : a2 (nI (40 * s + lo)).toNatClampNeg = nI (f lo) := by
        rw [nI_clamp (by omega)]
        exact (h.1 lo hk).1
      exact ⟨pk_in s 5 (by omega), pk_le (40 * s + c) (40 * s + lo) (fun q => absurd q (by omega)) (fun _ => ⟨pk_in (40 * s + lo) 200 (by omega), pk_lt v (f lo) (fun q => absurd q (by omega)) (fun _ => H) rfl e2⟩) e1⟩
    · have em : (nI (40 * s + lo) + nI (40 * s + hi)) / 2 = nI (40 * s + (lo + hi) / 2) := by
        rw [nI_add]
        exact (pk_div (d := 2) (by omega) (by omega) (by omega)).trans (congrArg nI (by omega))
      have hm : (lo + hi) / 2 < c := by omega
      have e3 : a3 (nI (40 * s + (lo + hi) / 2)).toNatClampNeg = nI (l ((lo + hi) / 2)) := by
        rw [nI_clamp (by omega)]
        exact (h.1 _ hm).2.1
      have hl2 := (h.1 _ hm).2.2.2
      refine ⟨by decide, nm_r em ⟨pk_in (40 * s + (lo + hi) / 2) 200 (by omega), pk_le v (l ((lo + hi) / 2)) (fun q => ?_) (fun q => nm_r (nI_1 _) ?_) rfl e3⟩⟩
      · refine ih lo ((lo + hi) / 2) (by omega) h2 ?_ (by omega)
        rcases Nat.lt_or_ge ((lo + hi) / 2) kk with z | z
        · have := mono kk _ z hk
          omega
        · exact z
      · have z : (lo + hi) / 2 < kk := by
          rcases Nat.lt_or_ge ((lo + hi) / 2) kk with z | z
          · exact z
          · rcases Nat.lt_or_ge kk ((lo + hi) / 2) with z2 | z2
            · have := mono _ kk z2 hm
              have := (h.1 _ hm).2.2.1
              omega
            · have e : (lo + hi) / 2 = kk := by omega
              rw [e] at q
              omega
        exact ih ((lo + hi) / 2 + 1) hi (by omega) (by omega) h3 h4
theorem cu_has {post : Int32 → Prop} {s c kk v : Nat} {p q : Int32} {f l : Nat → Nat} (hs : s < 4) (hc : c ≤ 40) (h1 : a1 s = nI c) (h : cu_S a2 a3 (40 * s) c f l)
    (hk : kk < c) (hv : f kk ≤ v) (hv2 : v ≤ l kk) (hcl : cu_cell p q) (hn : cu_N 4 p q 0 8 = nI v) (H : post 1) : wpX_has post (m, x, y, a1, a2, a3, a4, a5) (nI s) p q := by
  have e : nI (40 * s) + a1 (nI s).toNatClampNeg = nI (40 * s + c) := by
    rw [nI_clamp (by omega), h1, nI_add]
  unfold wpX_has
  refine cu_isSet s hs (br_f (by decide) (cu_isCell hcl (br_f (by decide) (cu_number ?_))))
  rw [hn]
  exact nm_r (pk_mul 40 s) ⟨pk_in s 5 (by omega), nm_r e ⟨c + 1, cu_has44 hs hc h1 h hk hv hv2 H (c + 1) 0 c (by omega) (by omega) (by omega) (Nat.le_refl _)⟩⟩
end
end
section
/-! pure: what make has made so far, and how many there can be -/
/-- how many of f 0 .. f (c - 1) are at most t -/
def cu_cnt (f : Nat → Nat) : Nat → Nat → Nat
  | 0, _ => 0
  | c + 1, t => cu_cnt f c t + (if f c ≤ t then 1 else 0)
theorem cu_cnt_s (f : Nat → Nat) (c t : Nat) : cu_cnt f (c + 1) t = cu_cnt f c t + (if f c ≤ t then 1 else 0) := rfl
theorem cu_cnt_le (f : Nat → Nat) (t : Nat) : ∀ c, cu_cnt f c t ≤ c := by
  intro c
  induction c with
  | zero => exact Nat.le_refl 0
  | succ c ih =>
    rw [cu_cnt_s]
    split <;> omega
theorem cu_cnt_mono (f : Nat → Nat) {t u : Nat} (h : t ≤ u) : ∀ c, cu_cnt f c t ≤ cu_cnt f c u := by
  intro c
  induction c with
  | zero => exact Nat.le_refl 0
  | succ c ih =>
    rw [cu_cnt_s, cu_cnt_s]
    split <;> split <;> omega
theorem cu_cnt_lt (f : Nat → Nat) {t u : Nat} (h : t ≤ u) {k : Nat} (h1 : t < f k) (h2 : f k ≤ u) : ∀ c, k < c → cu_cnt f c t < cu_cnt f c u := by
  intro c
  induction c with
  | zero => intro hk; omega
  | succ c ih =>
    intro hk
    rw [cu_cnt_s, cu_cnt_s]
    by_cases e : k = c
    · subst e
      have g := cu_cnt_mono f h k
      rw [if_neg (show ¬ f k ≤ t by omega), if_pos h2]
      omega
    · have g := ih (by omega)
      split <;> split <;> omega
/-- the boundaries of two sets up to t -/
def cu_P (fa la : Nat → Nat) (ca : Nat) (fb lb : Nat → Nat) (cb t : Nat) : Nat :=
  cu_cnt fa ca t + cu_cnt (fun k => la k + 1) ca t + (cu_cnt fb cb t + cu_cnt (fun k => lb k + 1) cb t)
theorem cu_P_le (fa la : Nat → Nat) {ca : Nat} (fb lb : Nat → Nat) {cb : Nat} (ha : ca ≤ 40) (hb : cb ≤ 40) (t : Nat) : cu_P fa la ca fb lb cb t ≤ 160 := by
  unfold cu_P
  have h1 := cu_cnt_le fa t ca
  have h2 := cu_cnt_le (fun k => la k + 1) t ca
  have h3 := cu_cnt_le fb t cb
  have h4 := cu_cnt_le (fun k => lb k + 1) t cb
  omega
theorem cu_P_fa {fa la : Nat → Nat} {ca : Nat} {fb lb : Nat → Nat} {cb t k : Nat} (hk : k < ca) (h : t < fa k) : cu_P fa la ca fb lb cb t < cu_P fa la ca fb lb cb (fa k) := by
  unfold cu_P
  have h1 := cu_cnt_lt fa (Nat.le_of_lt h) h (Nat.le_refl _) ca hk
  have h2 := cu_cnt_mono (fun k => la k + 1) (Nat.le_of_lt h) ca
  have h3 := cu_cnt_mono fb (Nat.le_of_lt h) cb
  have h4 := cu_cnt_mono (fun k => lb k + 1) (Nat.le_of_lt h) cb
  omega
theorem cu_P_la {fa la : Nat → Nat} {ca : Nat} {fb lb : Nat → Nat} {cb t k : Nat} (hk : k < ca) (h : t < la k + 1) : cu_P fa la ca fb lb cb t < cu_P fa la ca fb lb cb (la k + 1) := by
  unfold cu_P
  have h1 := cu_cnt_mono fa (Nat.le_of_lt h) ca
  have h2 := cu_cnt_lt (fun k => la k + 1) (Nat.le_of_lt h) h (Nat.le_refl _) ca hk
  have h3 := cu_cnt_mono fb (Nat.le_of_lt h) cb
  have h4 := cu_cnt_mono (fun k => lb k + 1) (Nat.le_of_lt h) cb
  omega
theorem cu_P_fb {fa la : Nat → Nat} {ca : Nat} {fb lb : Nat → Nat} {cb t k : Nat} (hk : k < cb) (h : t < fb k) : cu_P fa la ca fb lb cb t < cu_P fa la ca fb lb cb (fb k) := by
  unfold cu_P
  have h1 := cu_cnt_mono fa (Nat.le_of_lt h) ca
  have h2 := cu_cnt_mono (fun k => la k + 1) (Nat.le_of_lt h) ca
  have h3 := cu_cnt_lt fb (Nat.le_of_lt h) h (Nat.le_refl _) cb hk
  have h4 := cu_cnt_mono (fun k => lb k + 1) (Nat.le_of_lt h) cb
  omega
theorem cu_P_lb {fa la : Nat → Nat} {ca : Nat} {fb lb : Nat → Nat} {cb t k : Nat} (hk : k < cb) (h : t < lb k + 1) : cu_P fa la ca fb lb cb t < cu_P fa la ca fb lb cb (lb k + 1) := by
  unfold cu_P
  have h1 := cu_cnt_mono fa (Nat.le_of_lt h) ca
  have h2 := cu_cnt_mono (fun k => la k + 1) (Nat.le_of_lt h) ca
  have h3 := cu_cnt_mono fb (Nat.le_of_lt h) cb
  have h4 := cu_cnt_lt (fun k => lb k + 1) (Nat.le_of_lt h) h (Nat.le_refl _) cb hk
  omega
/-- what make has made below t: mm ascending intervals, and not too many for the boundaries passed -/
def cu_m (P : Nat → Nat) (t mm : Nat) (a4 a5 : Nat → Int32) (gf gl : Nat → Nat) : Prop :=
  (∀ k, k < mm → a4 k = nI (gf k) ∧ a5 k = nI (gl k) ∧ gf k ≤ gl k ∧ gl k < t) ∧ (∀ k, k + 1 < mm → gl k < gf (k + 1)) ∧
    (t < 256 → 2 * mm ≤ P t + 1 ∨ (2 * mm ≤ P t + 2 ∧ ∃ k, mm = k + 1 ∧ gl k + 1 = t)) ∧ mm ≤ 84
def cu_M (P : Nat → Nat) (t mm : Nat) (a4 a5 : Nat → Int32) : Prop := ∃ gf gl, cu_m P t mm a4 a5 gf gl
theorem cu_M_0 (P : Nat → Nat) (a4 a5 : Nat → Int32) : cu_M P 0 0 a4 a5 :=
  ⟨fun _ => 0, fun _ => 0, fun k hk => absurd hk (by omega), fun k hk => absurd hk (by omega), fun _ => Or.inl (by omega), by omega⟩
theorem cu_M_skip {P : Nat → Nat} {t nx mm : Nat} {a4 a5 : Nat → Int32} (h : cu_M P t mm a4 a5) (hx : t < nx) (hP : nx < 256 → P t < P nx) : cu_M P nx mm a4 a5 := by
  obtain ⟨gf, gl, h1, h2, h3, h4⟩ := h
  refine ⟨gf, gl, fun k hk => ⟨(h1 k hk).1, (h1 k hk).2.1, (h1 k hk).2.2.1, ?_⟩, h2, fun hn => Or.inl ?_, h4⟩
  · have := (h1 k hk).2.2.2
    omega
  · have := hP hn
    rcases h3 (by omega) with g | ⟨g, _⟩ <;> omega
theorem cu_m_new {P : Nat → Nat} {t nx mm : Nat} {a4 a5 : Nat → Int32} {gf gl : Nat → Nat} (h : cu_m P t mm a4 a5 gf gl) (ht : t < 256) (h160 : P t ≤ 160) (hx : t < nx) (hP : nx < 256 → P t < P nx)
    (hn : ∀ k, mm = k + 1 → gl k + 1 ≠ t) : mm < 84 ∧ cu_M P nx (mm + 1) (upd a4 mm (nI t)) (upd a5 mm (nI (nx - 1))) := by
  obtain ⟨h1, h2, h3, h4⟩ := h
  have h5 : 2 * mm ≤ P t + 1 := by
    rcases h3 ht with g | ⟨_, k, e, g⟩
    · exact g
    · exact absurd g (hn k e)
  refine ⟨by omega, fun j => if j = mm then t else gf j, fun j => if j = mm then nx - 1 else gl j, fun k hk => ?_, fun k hk => ?_, fun hq => Or.inr ⟨?_, mm, rfl, ?_⟩, by omega⟩
  · by_cases e : k = mm
    · subst e
      show upd a4 k (nI t) k = nI (if k = k then t else gf k) ∧ upd a5 k (nI (nx - 1)) k = nI (if k = k then nx - 1 else gl k) ∧ (if k = k then t else gf k) ≤ (if k = k then nx - 1 else gl k) ∧ (if k = k then nx - 1 else gl k) < nx
      rw [if_pos rfl, if_pos rfl, pk_us, pk_us]
      exact ⟨rfl, rfl, by omega, by omega⟩
    · have g := h1 k (by omega)
      show upd a4 mm (nI t) k = nI (if k = mm then t else gf k) ∧ upd a5 mm (nI (nx - 1)) k = nI (if k = mm then nx - 1 else gl k) ∧ (if k = mm then t else gf k) ≤ (if k = mm then nx - 1 else gl k) ∧ (if k = mm then nx - 1 else gl k) < nx
      rw [if_neg e, if_neg e, pk_un e, pk_un e]
      exact ⟨g.1, g.2.1, g.2.2.1, by omega⟩
  · show (if k = mm then nx - 1 else gl k) < (if k + 1 = mm then t else gf (k + 1))
    rw [if_neg (show ¬ k = mm by omega)]
    by_cases e : k + 1 = mm
    · rw [if_pos e]
      exact (h1 k (by omega)).2.2.2
    · rw [if_neg e]
      exact h2 k (by omega)
  · have := hP hq
    omega
  · show (if mm = mm then nx - 1 else gl mm) + 1 = nx
    rw [if_pos rfl]
    omega
theorem cu_m_ext {P : Nat → Nat} {t nx k : Nat} {a4 a5 : Nat → Int32} {gf gl : Nat → Nat} (h : cu_m P t (k + 1) a4 a5 gf gl) (ht : t < 256) (hx : t < nx) (hP : nx < 256 → P t < P nx) :
    cu_M P nx (k + 1) a4 (upd a5 k (nI (nx - 1))) := by
  obtain ⟨h1, h2, h3, h4⟩ := h
  have h5 : 2 * (k + 1) ≤ P t + 2 := by
    rcases h3 ht with g | ⟨g, _⟩ <;> omega
  refine ⟨gf, fun j => if j = k then nx - 1 else gl j, fun j hj => ?_, fun j hj => ?_, fun hq => Or.inr ⟨?_, k, rfl, ?_⟩, h4⟩
  · have g := h1 j hj
    show a4 j = nI (gf j) ∧ upd a5 k (nI (nx - 1)) j = nI (if j = k then nx - 1 else gl j) ∧ gf j ≤ (if j = k then nx - 1 else gl j) ∧ (if j = k then nx - 1 else gl j) < nx
    by_cases e : j = k
    · subst e
      rw [if_pos rfl, pk_us]
      exact ⟨g.1, rfl, by omega, by omega⟩
    · rw [if_neg e, pk_un e]
      exact ⟨g.1, g.2.1, g.2.2.1, by omega⟩
  · show (if j = k then nx - 1 else gl j) < gf (j + 1)
    rw [if_neg (show ¬ j = k by omega)]
    exact h2 j hj
  · have := hP hq
    omega
  · show (if k = k then nx - 1 else gl k) + 1 = nx
    rw [if_pos rfl]
    omega
/-- a good next end: behind t, at most 256, a boundary if below 256 -/
def cu_G (P : Nat → Nat) (t : Nat) (v : Int32) : Prop := ∃ nx, v = nI nx ∧ t < nx ∧ nx ≤ 256 ∧ (nx < 256 → P t < P nx)
theorem cu_G_256 (P : Nat → Nat) {t : Nat} (ht : t < 256) : cu_G P t 256 := ⟨256, rfl, ht, Nat.le_refl _, fun h => absurd h (by omega)⟩
/-- all four sets are fine -/
def cu_I (a1 a2 a3 : Nat → Int32) : Prop := ∀ s, s < 4 → ∃ c f l, c ≤ 40 ∧ a1 s = nI c ∧ cu_S a2 a3 (40 * s) c f l
theorem cu_I_0 : cu_I (fun _ => 0) (fun _ => 0) (fun _ => 0) := fun s _ =>
  ⟨0, fun _ => 0, fun _ => 0, by omega, rfl, fun k hk => absurd hk (by omega), fun k hk => absurd hk (by omega)⟩
end
section
section
variable {m x y : Int32} {a1 a2 a3 a4 a5 : Nat → Int32}
theorem cu_append {post : St1 → Prop} {P : Nat → Nat} {t nx mm : Nat} (h : cu_M P t mm a4 a5) (ht : t < 256) (h160 : P t ≤ 160) (hx : t < nx) (hx2 : nx ≤ 256) (hP : nx < 256 → P t < P nx)
    (H : ∀ mm' b4 b5, cu_M P nx mm' b4 b5 → post (nI mm', x, y, a1, a2, a3, b4, b5)) : wpX_append post (nI mm, x, y, a1, a2, a3, a4, a5) (nI t) (nI nx - 1) := by
  obtain ⟨gf, gl, hm⟩ := h
  have hmm := hm.2.2.2
  rw [show nI nx - 1 = nI (nx - 1) from pk_sub (b := 1) (by omega)]
  have k38 : (∀ k, mm = k + 1 → gl k + 1 ≠ t) → wX_append_38 post (nI t) (nI (nx - 1)) (nI mm) x y a1 a2 a3 a4 a5 := by
    intro hn
    obtain ⟨hq, hM⟩ := cu_m_new hm ht h160 hx hP hn
    have e4 : upd a4 (nI mm).toNatClampNeg (nI t).toInt16.toInt32 = upd a4 mm (nI t) := by rw [nI_clamp (by omega), cu_s16 t (by omega)]
    have e5 : upd a5 (nI mm).toNatClampNeg (nI (nx - 1)).toInt16.toInt32 = upd a5 mm (nI (nx - 1)) := by rw [nI_clamp (by omega), cu_s16 (nx - 1) (by omega)]
    exact ⟨pk_in mm 84 hq, nm_r e4 ⟨pk_in mm 84 hq, nm_r e5 (nm_r (nI_1 mm) (H _ _ _ hM))⟩⟩
  refine pk_le mm 0 (fun g => k38 (fun k e => absurd e (by omega))) (fun g => ?_)
  obtain ⟨k, rfl⟩ : ∃ k, mm = k + 1 := ⟨mm - 1, by omega⟩
  have g1 := hm.1 k (by omega)
  have e1 : nI (k + 1) - 1 = nI k := nI_pred k
  have e2 : a5 (nI (k + 1) - 1).toNatClampNeg = nI (gl k) := by
    rw [e1, nI_clamp (by omega)]
    exact g1.2.1
  have e3 : nI t - 1 = nI (t - 1) := pk_sub (b := 1) (by omega)
  have e5 : upd a5 (nI (k + 1) - 1).toNatClampNeg (nI (nx - 1)).toInt16.toInt32 = upd a5 k (nI (nx - 1)) := by rw [e1, nI_clamp (by omega), cu_s16 (nx - 1) (by omega)]
  exact ⟨pk_in k 84 (by omega) e1, pk_eq (gl k) (t - 1) (fun q => ⟨pk_in k 84 (by omega) e1, nm_r e5 (H _ _ _ (cu_m_ext hm ht hx hP))⟩)
    (fun q => k38 (fun j ej => by
      have : j = k := by omega
      subst this
      omega)) e2 e3⟩
theorem cu_301 {post : Int32 → St1 → Prop} {J : Int32 → Int32 → Int32 → Int32 → Int32 → Int32 → (Nat → Int32) → (Nat → Int32) → (Nat → Int32) → (Nat → Int32) → (Nat → Int32) → Prop}
    {x1 x2 x5 x6 x7 x8 v z0 : Int32} {P : Nat → Nat} {t mm : Nat} (hM : cu_M P t mm a4 a5) (ht : t < 256) (h160 : P t ≤ 160) (hv : cu_G P t v)
    (H : ∀ nx mm' b4 b5, t < nx → nx ≤ 256 → cu_M P nx mm' b4 b5 → J x5 x6 (nI nx) (nI mm') x y a1 a2 a3 b4 b5) : wX_make_301 post J x1 x2 x5 x6 x7 x8 (nI t) v z0 (nI mm) x y a1 a2 a3 a4 a5 := by
  obtain ⟨nx, rfl, h1, h2, h3⟩ := hv
  exact br_c (fun _ => H nx mm a4 a5 h1 h2 (cu_M_skip hM h1 h3)) (fun _ => cu_append hM ht h160 h1 h2 h3 (fun mm' b4 b5 h => H nx mm' b4 b5 h1 h2 h))
theorem cu_241 {post : Int32 → St1 → Prop} {J : Int32 → Int32 → Int32 → Int32 → Int32 → Int32 → (Nat → Int32) → (Nat → Int32) → (Nat → Int32) → (Nat → Int32) → (Nat → Int32) → Prop}
    {x1 x2 x5 x6 x7 x8 x9 x10 x11 x12 : Int32} (H : ∀ z0, wX_make_301 post J x1 x2 x5 x6 x7 x8 x9 x12 z0 m x y a1 a2 a3 a4 a5) : wX_make_241 post J x1 x2 x5 x6 x7 x8 x9 x10 x11 x12 m x y a1 a2 a3 a4 a5 :=
  br_c (fun _ => br_c (fun _ => H 0) (fun _ => br_c (fun _ => H 0) (fun _ => H 1)))
    (fun _ => br_c (fun _ => br_c (fun _ => br_c (fun _ => H 0) (fun _ => H 1)) (fun _ => H 1)) (fun _ => br_c (fun _ => H 0) (fun _ => br_c (fun _ => H 1) (fun _ => H 0))))
theorem cu_192 {post : Int32 → St1 → Prop} {J : Int32 → Int32 → Int32 → Int32 → Int32 → Int32 → (Nat → Int32) → (Nat → Int32) → (Nat → Int32) → (Nat → Int32) → (Nat → Int32) → Prop}
    {x1 x2 x5 x7 x9 x10 x11 x12 : Int32} {P : Nat → Nat} {t b cb j : Nat} {fb lb : Nat → Nat} (ht : t < 256) (hb : b < 5) (hcb : cb ≤ 40) (Sb : cu_S a2 a3 (40 * b) cb fb lb) (hj : j ≤ cb)
    (hl : j < cb → t ≤ lb j) (h11 : x11 = 0 → j < cb → t < fb j) (P1 : ∀ k, k < cb → t < fb k → P t < P (fb k)) (P2 : ∀ k, k < cb → t < lb k + 1 → P t < P (lb k + 1)) (h12 : cu_G P t x12)
    (H : ∀ v z0, cu_G P t v → wX_make_301 post J x1 x2 x5 (nI (40 * b + j)) x7 (nI (40 * b + cb)) x9 v z0 m x y a1 a2 a3 a4 a5) :
    wX_make_192 post J x1 x2 x5 (nI (40 * b + j)) x7 (nI (40 * b + cb)) x9 x10 x11 x12 m x y a1 a2 a3 a4 a5 := by
  have K : ∀ v, cu_G P t v → wX_make_230 post J x1 x2 x5 (nI (40 * b + j)) x7 (nI (40 * b + cb)) x9 x10 x11 x12 v m x y a1 a2 a3 a4 a5 :=
    fun v hv => br_c (fun _ => cu_241 (fun z => H _ z h12)) (fun _ => cu_241 (fun z => H _ z hv))
  refine pk_le (40 * b + cb) (40 * b + j) (fun _ => K _ (cu_G_256 P ht)) (fun g => ?_)
  obtain ⟨g2, g3, g4, g5⟩ := Sb.1 j (by omega)
  have e2 : a2 (nI (40 * b + j)).toNatClampNeg = nI (fb j) := by
    rw [nI_clamp (by omega)]
    exact g2
  have e3 : a3 (nI (40 * b + j)).toNatClampNeg + 1 = nI (lb j + 1) := by
    rw [nI_clamp (by omega), g3]
    exact nI_1 _
  have q := hl (by omega)
  exact br_c (fun e => ⟨pk_in (40 * b + j) 200 (by omega), K _ ⟨fb j, e2, h11 e (by omega), by omega, fun _ => P1 j (by omega) (h11 e (by omega))⟩⟩)
    (fun e => ⟨pk_in (40 * b + j) 200 (by omega), K _ ⟨lb j + 1, e3, by omega, by omega, fun _ => P2 j (by omega) (by omega)⟩⟩)
theorem cu_152 {post : Int32 → St1 → Prop} {J : Int32 → Int32 → Int32 → Int32 → Int32 → Int32 → (Nat → Int32) → (Nat → Int32) → (Nat → Int32) → (Nat → Int32) → (Nat → Int32) → Prop}
    {x1 x2 x6 x8 x9 x10 x11 : Int32} {P : Nat → Nat} {t a ca i : Nat} {fa la : Nat → Nat} (ht : t < 256) (ha : a < 5) (hca : ca ≤ 40) (Sa : cu_S a2 a3 (40 * a) ca fa la) (hi : i ≤ ca)
    (hl : i < ca → t ≤ la i) (h10 : x10 = 0 → i < ca → t < fa i) (P1 : ∀ k, k < ca → t < fa k → P t < P (fa k)) (P2 : ∀ k, k < ca → t < la k + 1 → P t < P (la k + 1))
    (K : ∀ v, cu_G P t v → wX_make_192 post J x1 x2 (nI (40 * a + i)) x6 (nI (40 * a + ca)) x8 x9 x10 x11 v m x y a1 a2 a3 a4 a5) :
    wX_make_152 post J x1 x2 (nI (40 * a + i)) x6 (nI (40 * a + ca)) x8 x9 x10 x11 m x y a1 a2 a3 a4 a5 := by
  refine pk_le (40 * a + ca) (40 * a + i) (fun _ => K _ (cu_G_256 P ht)) (fun g => ?_)
  obtain ⟨g2, g3, g4, g5⟩ := Sa.1 i (by omega)
  have e2 : a2 (nI (40 * a + i)).toNatClampNeg = nI (fa i) := by
    rw [nI_clamp (by omega)]
    exact g2
  have e3 : a3 (nI (40 * a + i)).toNatClampNeg + 1 = nI (la i + 1) := by
    rw [nI_clamp (by omega), g3]
    exact nI_1 _
  have q := hl (by omega)
  exact br_c (fun e => ⟨pk_in (40 * a + i) 200 (by omega), K _ ⟨fa i, e2, h10 e (by omega), by omega, fun _ => P1 i (by omega) (h10 e (by omega))⟩⟩)
    (fun e => ⟨pk_in (40 * a + i) 200 (by omega), K _ ⟨la i + 1, e3, by omega, by omega, fun _ => P2 i (by omega) (by omega)⟩⟩)
theorem cu_126 {post : Int32 → St1 → Prop} {J : Int32 → Int32 → Int32 → Int32 → Int32 → Int32 → (Nat → Int32) → (Nat → Int32) → (Nat → Int32) → (Nat → Int32) → (Nat → Int32) → Prop}
    {x1 x2 x5 x7 x10 : Int32} {t b cb j : Nat} {fb lb : Nat → Nat} (ht : t < 256) (hb : b < 5) (hcb : cb ≤ 40) (Sb : cu_S a2 a3 (40 * b) cb fb lb) (hj : j ≤ cb)
    (K : ∀ x11 : Int32, (x11 = 0 → j < cb → t < fb j) → wX_make_152 post J x1 x2 x5 (nI (40 * b + j)) x7 (nI (40 * b + cb)) (nI t) x10 x11 m x y a1 a2 a3 a4 a5) :
    wX_make_126 post J x1 x2 x5 (nI (40 * b + j)) x7 (nI (40 * b + cb)) (nI t) x10 m x y a1 a2 a3 a4 a5 := by
  refine pk_le (40 * b + cb) (40 * b + j) (fun _ => K 0 (fun _ q => absurd q (by omega))) (fun g => ?_)
  obtain ⟨g2, g3, g4, g5⟩ := Sb.1 j (by omega)
  have e2 : a2 (nI (40 * b + j)).toNatClampNeg = nI (fb j) := by
    rw [nI_clamp (by omega)]
    exact g2
  exact ⟨pk_in (40 * b + j) 200 (by omega), pk_lt t (fb j) (fun q => K 0 (fun _ _ => q)) (fun _ => K 1 (fun q => absurd q (by decide))) rfl e2⟩
theorem cu_102 {post : Int32 → St1 → Prop} {J : Int32 → Int32 → Int32 → Int32 → Int32 → Int32 → (Nat → Int32) → (Nat → Int32) → (Nat → Int32) → (Nat → Int32) → (Nat → Int32) → Prop}
    {x1 x2 x6 x8 : Int32} {t a ca i : Nat} {fa la : Nat → Nat} (ht : t < 256) (ha : a < 5) (hca : ca ≤ 40) (Sa : cu_S a2 a3 (40 * a) ca fa la) (hi : i ≤ ca)
    (K : ∀ x10 : Int32, (x10 = 0 → i < ca → t < fa i) → wX_make_126 post J x1 x2 (nI (40 * a + i)) x6 (nI (40 * a + ca)) x8 (nI t) x10 m x y a1 a2 a3 a4 a5) :
    wX_make_102 post J x1 x2 (nI (40 * a + i)) x6 (nI (40 * a + ca)) x8 (nI t) m x y a1 a2 a3 a4 a5 := by
  refine pk_le (40 * a + ca) (40 * a + i) (fun _ => K 0 (fun _ q => absurd q (by omega))) (fun g => ?_)
  obtain ⟨g2, g3, g4, g5⟩ := Sa.1 i (by omega)
  have e2 : a2 (nI (40 * a + i)).toNatClampNeg = nI (fa i) := by
    rw [nI_clamp (by omega)]
    exact g2
  exact ⟨pk_in (40 * a + i) 200 (by omega), pk_lt t (fa i) (fun q => K 0 (fun _ _ => q)) (fun _ => K 1 (fun q => absurd q (by decide))) rfl e2⟩
theorem cu_77 {post : Int32 → St1 → Prop} {J : Int32 → Int32 → Int32 → Int32 → Int32 → Int32 → (Nat → Int32) → (Nat → Int32) → (Nat → Int32) → (Nat → Int32) → (Nat → Int32) → Prop}
    {x1 x2 x5 x7 : Int32} {t b cb : Nat} {fb lb : Nat → Nat} (ht : t < 256) (hb : b < 5) (hcb : cb ≤ 40) (Sb : cu_S a2 a3 (40 * b) cb fb lb)
    (K : ∀ j, j ≤ cb → (j < cb → t ≤ lb j) → wX_make_102 post J x1 x2 x5 (nI (40 * b + j)) x7 (nI (40 * b + cb)) (nI t) m x y a1 a2 a3 a4 a5) :
    ∀ d j, j + d = cb → ∃ fu, wX_make_77 post J x1 x2 x5 x7 (nI (40 * b + cb)) (nI t) m x y a1 a2 a3 a4 a5 fu (nI (40 * b + j)) := by
  intro d
  induction d with
  | zero =>
    intro j hj
    exact ⟨1, pk_le (40 * b + cb) (40 * b + j) (fun _ => K j (by omega) (fun q => absurd q (by omega))) (fun g => absurd g (by omega))⟩
  | succ d ih =>
    intro j hj
    obtain ⟨g2, g3, g4, g5⟩ := Sb.1 j (by omega)
    have e3 : a3 (nI (40 * b + j)).toNatClampNeg = nI (lb j) := by
      rw [nI_clamp (by omega)]
      exact g3
    obtain ⟨fu, hf⟩ := ih (j + 1) (by omega)
    rw [← Nat.add_assoc] at hf
    exact ⟨fu + 1, pk_le (40 * b + cb) (40 * b + j) (fun g => absurd g (by omega)) (fun _ => ⟨pk_in (40 * b + j) 200 (by omega), pk_le t (lb j) (fun q => K j (by omega) (fun _ => q)) (fun _ => nm_r (nI_1 _) hf) rfl e3⟩)⟩
theorem cu_52 {post : Int32 → St1 → Prop} {J : Int32 → Int32 → Int32 → Int32 → Int32 → Int32 → (Nat → Int32) → (Nat → Int32) → (Nat → Int32) → (Nat → Int32) → (Nat → Int32) → Prop}
    {x1 x2 x6 x8 : Int32} {t a ca : Nat} {fa la : Nat → Nat} (ht : t < 256) (ha : a < 5) (hca : ca ≤ 40) (Sa : cu_S a2 a3 (40 * a) ca fa la)
    (K : ∀ i, i ≤ ca → (i < ca → t ≤ la i) → ∃ fu, wX_make_77 post J x1 x2 (nI (40 * a + i)) (nI (40 * a + ca)) x8 (nI t) m x y a1 a2 a3 a4 a5 fu x6) :
    ∀ d i, i + d = ca → ∃ fu, wX_make_52 post J x1 x2 x6 (nI (40 * a + ca)) x8 (nI t) m x y a1 a2 a3 a4 a5 fu (nI (40 * a + i)) := by
  intro d
  induction d with
  | zero =>
    intro i hi
    exact ⟨1, pk_le (40 * a + ca) (40 * a + i) (fun _ => K i (by omega) (fun q => absurd q (by omega))) (fun g => absurd g (by omega))⟩
  | succ d ih =>
    intro i hi
    obtain ⟨g2, g3, g4, g5⟩ := Sa.1 i (by omega)
    have e3 : a3 (nI (40 * a + i)).toNatClampNeg = nI (la i) := by
      rw [nI_clamp (by omega)]
      exact g3
    obtain ⟨fu, hf⟩ := ih (i + 1) (by omega)
    rw [← Nat.add_assoc] at hf
    exact ⟨fu + 1, pk_le (40 * a + ca) (40 * a + i) (fun g => absurd g (by omega)) (fun _ => ⟨pk_in (40 * a + i) 200 (by omega), pk_le t (la i) (fun q => K i (by omega) (fun _ => q)) (fun _ => nm_r (nI_1 _) hf) rfl e3⟩)⟩
theorem cu_44 {post : Int32 → St1 → Prop} {x1 how : Int32} {a ca b cb : Nat} {fa la fb lb : Nat → Nat} (ha : a < 5) (hca : ca ≤ 40) (Sa : cu_S a2 a3 (40 * a) ca fa la) (hb : b < 5) (hcb : cb ≤ 40) (Sb : cu_S a2 a3 (40 * b) cb fb lb)
    (Hend : ∀ mm b4 b5, mm ≤ 40 → cu_M (cu_P fa la ca fb lb cb) 256 mm b4 b5 → ∃ fu, wX_make_340 post x1 (nI mm) x y fu 0 a1 a2 a3 b4 b5)
    (Hfull : ∀ mm b4 b5, post (-2) (nI mm, x, y, a1, a2, a3, b4, b5)) :
    ∀ w i j t mm b4 b5, 256 - t < w → i ≤ ca → j ≤ cb → t ≤ 256 → cu_M (cu_P fa la ca fb lb cb) t mm b4 b5 →
      wX_make_44 post x1 how (nI (40 * a + ca)) (nI (40 * b + cb)) w (nI (40 * a + i)) (nI (40 * b + j)) (nI t) (nI mm) x y a1 a2 a3 b4 b5 := by
  intro w
  induction w with
  | zero => intro i j t mm b4 b5 hw; omega
  | succ w ih =>
    intro i j t mm b4 b5 hw hi hj ht hM
    have hmm : mm ≤ 84 := by
      obtain ⟨_, _, _, _, _, q⟩ := hM
      exact q
    refine pk_le 256 t (fun g => ?_) (fun g => ?_)
    · have e : t = 256 := by omega
      subst e
      exact pk_le mm 40 (fun q => Hend mm b4 b5 q hM) (fun _ => Hfull mm b4 b5)
    · exact cu_52 g ha hca Sa (fun i' hi' hl => cu_77 g hb hcb Sb (fun j' hj' hl' => cu_102 g ha hca Sa hi' (fun x10 h10 => cu_126 g hb hcb Sb hj' (fun x11 h11 =>
        cu_152 g ha hca Sa hi' hl h10 (fun k hk h => cu_P_fa hk h) (fun k hk h => cu_P_la hk h) (fun v hv =>
          cu_192 g hb hcb Sb hj' hl' h11 (fun k hk h => cu_P_fb hk h) (fun k hk h => cu_P_lb hk h) hv (fun v' z0 hv' =>
            cu_301 hM g (cu_P_le fa la fb lb hca hcb t) hv' (fun nx mm' c4 c5 q1 q2 q3 => ih i' j' nx mm' c4 c5 (by omega) hi' hj' q2 q3))))))
        (cb - j) j (by omega)) (ca - i) i (by omega)
theorem cu_340 {post : Int32 → St1 → Prop} {d mm : Nat} {gf gl : Nat → Nat} (hd : d < 4) (hm : mm ≤ 40) (h : ∀ k, k < mm → a4 k = nI (gf k) ∧ a5 k = nI (gl k) ∧ gf k ≤ gl k ∧ gl k < 256) (h2 : ∀ k, k + 1 < mm → gl k < gf (k + 1))
    (H : ∀ r b1 b2 b3, b1 d = nI mm → (∀ s, s ≠ d → b1 s = a1 s) → cu_S b2 b3 (40 * d) mm gf gl → (∀ j, (j < 40 * d ∨ 40 * d + 40 ≤ j) → b2 j = a2 j ∧ b3 j = a3 j) → post r (nI mm, x, y, b1, b2, b3, a4, a5)) :
    ∃ fu, wX_make_340 post (nI d) (nI mm) x y fu 0 a1 a2 a3 a4 a5 := by
  refine pk_loop (σ := (Nat → Int32) × (Nat → Int32)) (fun n i s => wX_make_340 post (nI d) (nI mm) x y n (nI i) a1 s.1 s.2 a4 a5)
    (fun i s => (∀ k, k < i → s.1 (40 * d + k) = nI (gf k) ∧ s.2 (40 * d + k) = nI (gl k)) ∧ (∀ j, (j < 40 * d ∨ 40 * d + 40 ≤ j) → s.1 j = a2 j ∧ s.2 j = a3 j)) mm 0 (a2, a3) (by omega)
    ⟨fun k hk => absurd hk (by omega), fun j _ => ⟨rfl, rfl⟩⟩ ?_ ?_
  · intro n s hs
    have e : upd a1 (nI d).toNatClampNeg (nI mm).toInt8.toInt32 = upd a1 d (nI mm) := by rw [nI_clamp (by omega), cu_s8 mm (by omega)]
    have hS : cu_S s.1 s.2 (40 * d) mm gf gl := ⟨fun k hk => ⟨(hs.1 k hk).1, (hs.1 k hk).2, (h k hk).2.2.1, (h k hk).2.2.2⟩, h2⟩
    exact pk_le mm mm (fun _ => ⟨pk_in d 5 (by omega), nm_r e (cu_cells hd hm pk_us hS (H _ _ _ _ pk_us (fun s hs => pk_un hs) hS hs.2))⟩) (fun g => absurd g (by omega))
  · intro n i s hi hs hw
    have e0 : 40 * nI d + nI i = nI (40 * d + i) := by rw [show (40 : Int32) * nI d = nI (40 * d) from pk_mul 40 d, nI_add]
    obtain ⟨g1, g2, g3, g4⟩ := h i hi
    have e1 : upd s.1 (40 * nI d + nI i).toNatClampNeg (vp_nar .short (a4 (nI i).toNatClampNeg)) = upd s.1 (40 * d + i) (nI (gf i)) := by
      rw [e0, nI_clamp (by omega), nI_clamp (by omega), g1, cu_n16 (by omega)]
    have e2 : upd s.2 (40 * nI d + nI i).toNatClampNeg (vp_nar .short (a5 (nI i).toNatClampNeg)) = upd s.2 (40 * d + i) (nI (gl i)) := by
      rw [e0, nI_clamp (by omega), nI_clamp (by omega), g2, cu_n16 (by omega)]
    refine pk_le mm i (fun g => absurd g (by omega)) (fun _ => ⟨pk_in i 84 (by omega), pk_in (40 * d + i) 200 (by omega) e0, nm_r e1 ⟨pk_in i 84 (by omega), pk_in (40 * d + i) 200 (by omega) e0, nm_r e2 (nm_r (nI_1 i) (hw (upd s.1 (40 * d + i) (nI (gf i)), upd s.2 (40 * d + i) (nI (gl i))) ⟨fun k hk => ?_, fun j hj => ?_⟩))⟩⟩)
    · show upd s.1 (40 * d + i) (nI (gf i)) (40 * d + k) = nI (gf k) ∧ upd s.2 (40 * d + i) (nI (gl i)) (40 * d + k) = nI (gl k)
      by_cases e : k = i
      · subst e
        exact ⟨pk_us, pk_us⟩
      · rw [pk_un (show 40 * d + k ≠ 40 * d + i by omega), pk_un (show 40 * d + k ≠ 40 * d + i by omega)]
        exact hs.1 k (by omega)
    · show upd s.1 (40 * d + i) (nI (gf i)) j = a2 j ∧ upd s.2 (40 * d + i) (nI (gl i)) j = a3 j
      rw [pk_un (show j ≠ 40 * d + i by omega), pk_un (show j ≠ 40 * d + i by omega)]
      exact hs.2 j hj
theorem cu_make {post : Int32 → St1 → Prop} {how : Int32} {d a ca b cb : Nat} {fa la fb lb : Nat → Nat} (hI : cu_I a1 a2 a3) (hd : d < 4) (ha : a < 5) (hca : ca ≤ 40) (ea : a1 a = nI ca) (Sa : cu_S a2 a3 (40 * a) ca fa la)
    (hb : b < 5) (hcb : cb ≤ 40) (eb : a1 b = nI cb) (Sb : cu_S a2 a3 (40 * b) cb fb lb)
    (H : ∀ r m' x' y' b1 b2 b3 b4 b5, cu_I b1 b2 b3 → post r (m', x', y', b1, b2, b3, b4, b5)) : wpX_make post (m, x, y, a1, a2, a3, a4, a5) (nI d) how (nI a) (nI b) := by
  have e1 : nI (40 * a) + a1 (nI a).toNatClampNeg = nI (40 * a + ca) := by rw [nI_clamp (by omega), ea, nI_add]
  have e2 : nI (40 * b) + a1 (nI b).toNatClampNeg = nI (40 * b + cb) := by rw [nI_clamp (by omega), eb, nI_add]
  refine nm_r (pk_mul 40 a) (nm_r (pk_mul 40 b) ⟨pk_in a 5 ha, nm_r e1 ⟨pk_in b 5 hb, nm_r e2 ⟨257, ?_⟩⟩⟩)
  refine cu_44 ha hca Sa hb hcb Sb (fun mm b4 b5 hm hM => ?_) (fun mm b4 b5 => H _ _ _ _ _ _ _ _ _ hI) 257 0 0 0 0 a4 a5 (by omega) (by omega) (by omega) (by omega) (cu_M_0 _ _ _)
  obtain ⟨gf, gl, h1, h2, _, _⟩ := hM
  refine cu_340 hd hm h1 h2 (fun r b1 b2 b3 k1 k2 k3 k4 => H _ _ _ _ _ _ _ _ _ (fun s hs => ?_))
  by_cases e : s = d
  · subst e
    exact ⟨mm, gf, gl, hm, k1, k3⟩
  · obtain ⟨c, f, l, hc, q1, q2⟩ := hI s hs
    refine ⟨c, f, l, hc, (k2 s e).trans q1, fun k hk => ?_, q2.2⟩
    have g := k4 (40 * s + k) (by omega)
    rw [g.1, g.2]
    exact q2.1 k hk
end
end
section
section
variable {m x y : Int32} {a1 a2 a3 a4 a5 : Nat → Int32}
/-- a square of level lv from a number on: cut down to a multiple of its size -/
theorem cu_sq : ∀ lv, lv < 5 → ∀ v, v < 256 →
    nI v &&& (-(((1 : Int32) <<< ((4 - nI lv) &&& 31)) * ((1 : Int32) <<< ((4 - nI lv) &&& 31)))) = nI (v / 4 ^ (4 - lv) * 4 ^ (4 - lv)) ∧
    (nI v &&& (-(((1 : Int32) <<< ((4 - nI lv) &&& 31)) * ((1 : Int32) <<< ((4 - nI lv) &&& 31))))) + (((1 : Int32) <<< ((4 - nI lv) &&& 31)) * ((1 : Int32) <<< ((4 - nI lv) &&& 31))) - 1 = nI (v / 4 ^ (4 - lv) * 4 ^ (4 - lv) + 4 ^ (4 - lv) - 1) ∧
    v / 4 ^ (4 - lv) * 4 ^ (4 - lv) ≤ v / 4 ^ (4 - lv) * 4 ^ (4 - lv) + 4 ^ (4 - lv) - 1 ∧ v / 4 ^ (4 - lv) * 4 ^ (4 - lv) + 4 ^ (4 - lv) - 1 < 256 := by decide +kernel
theorem cu_level4 {p : Int32} (h0 : 0 ≤ p) (h4 : ¬ 4 < p >>> ((10 : Int32) &&& 31)) : ∃ lv, lv < 5 ∧ p >>> ((10 : Int32) &&& 31) = nI lv := by
  obtain ⟨j, hj, rfl⟩ := nI_of (x := p) (Int32.not_lt.mpr h0)
  have e : nI j >>> ((10 : Int32) &&& 31) = nI (j / 2 ^ 10) := pk_shrN hj _ 10 (by decide)
  have hq : j / 2 ^ 10 ≤ j := Nat.div_le_self _ _
  rw [e] at h4 ⊢
  refine ⟨_, ?_, rfl⟩
  rcases Nat.lt_or_ge (j / 2 ^ 10) 5 with z | z
  · exact z
  · exact absurd (nI_lt (a := 4) (b := j / 2 ^ 10) z (by omega)) h4
/-- the operand's place is written: the four sets stay, the fifth is one interval -/
theorem cu_oper {g e : Nat} (hI : cu_I a1 a2 a3) (h1 : g ≤ e) (h2 : e < 256) :
    cu_I (upd a1 4 1) (upd a2 160 (nI g)) (upd a3 160 (nI e)) ∧ cu_S (upd a2 160 (nI g)) (upd a3 160 (nI e)) (40 * 4) 1 (fun _ => g) (fun _ => e) := by
  refine ⟨fun s hs => ?_, fun k hk => ?_, fun k hk => absurd hk (by omega)⟩
  · obtain ⟨c, f, l, hc, q1, q2⟩ := hI s hs
    refine ⟨c, f, l, hc, ?_, fun k hk => ?_, q2.2⟩
    · rw [pk_un (show s ≠ 4 by omega)]
      exact q1
    · rw [pk_un (show 40 * s + k ≠ 160 by omega), pk_un (show 40 * s + k ≠ 160 by omega)]
      exact q2.1 k hk
  · have e0 : k = 0 := by omega
    subst e0
    exact ⟨pk_us, pk_us, h1, h2⟩
theorem cu_change {post : Int32 → St1 → Prop} {s : Nat} {p1 p2 : Int32} (hI : cu_I a1 a2 a3) (hs : s < 4)
    (H : ∀ r m' x' y' b1 b2 b3 b4 b5, cu_I b1 b2 b3 → post r (m', x', y', b1, b2, b3, b4, b5)) : wpX_change post (m, x, y, a1, a2, a3, a4, a5) (nI s) p1 p2 := by
  have B : ∀ r, post r (m, x, y, a1, a2, a3, a4, a5) := fun r => H r _ _ _ _ _ _ _ _ hI
  unfold wpX_change
  refine cu_isSet s hs (br_f (by decide) (br_c (fun hp => nm_e (nm_e (nm_e (br_c (fun _ => B _) (fun h4 => br_c (fun _ => B _) (fun _ => br_c (fun _ => nm_e (nm_e (cu_number ?_))) (fun _ => B _))))))) (fun _ => B _)))
  obtain ⟨lv, hlv, el⟩ := cu_level4 hp h4
  obtain ⟨v, hv, ev⟩ := cu_N_lt ((p1 >>> ((5 : Int32) &&& 31) &&& 31) * ((1 : Int32) <<< ((4 - p1 >>> ((10 : Int32) &&& 31)) &&& 31))) ((p1 &&& 31) * ((1 : Int32) <<< ((4 - p1 >>> ((10 : Int32) &&& 31)) &&& 31)))
  rw [ev, el]
  obtain ⟨q1, q2, q3, q4⟩ := cu_sq lv hlv v hv
  obtain ⟨o1, o2⟩ := cu_oper hI q3 q4
  obtain ⟨c, f, l, hc, k1, k2⟩ := o1 s hs
  refine nm_r q1 (nm_e (nm_r (congrArg (upd a2 160) (cu_s16 _ (by omega))) (nm_r (e' := upd a3 160 (nI (v / 4 ^ (4 - lv) * 4 ^ (4 - lv) + 4 ^ (4 - lv) - 1))) ?_ ?_)))
  · rw [← q1, q2]
    exact congrArg (upd a3 160) (cu_s16 _ (by omega))
  · exact br_c (fun _ => cu_make o1 hs (by omega) hc k1 k2 (b := 4) (by omega) (cb := 1) (by omega) pk_us o2 (fun r m' x' y' b1 b2 b3 b4 b5 h => H r m' x' y' b1 b2 b3 b4 b5 h))
      (fun _ => cu_make o1 hs (by omega) hc k1 k2 (b := 4) (by omega) (cb := 1) (by omega) pk_us o2 (fun r m' x' y' b1 b2 b3 b4 b5 h => H r m' x' y' b1 b2 b3 b4 b5 h))
theorem cu_combine {post : Int32 → St1 → Prop} {d a b : Nat} {p1 p2 p3 : Int32} (hI : cu_I a1 a2 a3) (hd : d < 4) (ha : a < 4) (hb : b < 4) (h2 : p2 = nI a) (h3 : p3 = nI b)
    (H : ∀ r m' x' y' b1 b2 b3 b4 b5, cu_I b1 b2 b3 → post r (m', x', y', b1, b2, b3, b4, b5)) : wpX_combine post (m, x, y, a1, a2, a3, a4, a5) (nI d) p1 p2 p3 := by
  subst h2 h3
  have B : ∀ r, post r (m, x, y, a1, a2, a3, a4, a5) := fun r => H r _ _ _ _ _ _ _ _ hI
  obtain ⟨ca, fa, la, hca, ea, Sa⟩ := hI a ha
  obtain ⟨cb, fb, lb, hcb, eb, Sb⟩ := hI b hb
  unfold wpX_combine
  exact cu_isSet d hd (br_f (by decide) (cu_isSet a ha (br_f (by decide) (cu_isSet b hb (br_f (by decide) (br_c (fun _ => B _) (fun _ => br_c (fun _ =>
    cu_make hI hd (by omega) hca ea Sa (by omega) hcb eb Sb (fun r m' x' y' b1 b2 b3 b4 b5 h => H r m' x' y' b1 b2 b3 b4 b5 h)) (fun _ => B _))))))))
end
end
section
section
variable {m x y : Int32} {a1 a2 a3 a4 a5 : Nat → Int32}
theorem cu_p77 {post : Int32 → St1 → Prop} {J : Int32 → Int32 → Int32 → Int32 → Int32 → Int32 → (Nat → Int32) → (Nat → Int32) → (Nat → Int32) → (Nat → Int32) → (Nat → Int32) → Prop}
    {s c kk t z : Nat} {x2 x4 x5 : Int32} {f l : Nat → Nat} (hs : s < 4) (hc : c ≤ 40) (h1 : a1 s = nI c) (h : cu_S a2 a3 (40 * s) c f l) (hk : kk < c) (ht : f kk ≤ t) (hz : t + z ≤ l kk + 1)
    (H : ∀ X Y, J (nI (t + z)) (x4 + nI z) (x5 + 1) m X Y a1 a2 a3 a4 a5) (X Y : Int32) : ∃ fu, wL_pieced_77 post J (nI s) x2 x4 x5 (nI t) (nI z) fu (nI t) m X Y a1 a2 a3 a4 a5 := by
  have hl := (h.1 kk hk).2.2.2
  refine pk_loop (σ := Int32 × Int32) (fun n i s' => wL_pieced_77 post J (nI s) x2 x4 x5 (nI t) (nI z) n (nI i) m s'.1 s'.2 a1 a2 a3 a4 a5) (fun i _ => t ≤ i) (t + z) t (X, Y) (by omega) (Nat.le_refl _) ?_ ?_
  · intro n s' _
    exact pk_le (t + z) (t + z) (fun _ => nm_r (nI_add t z) (nm_e (nm_e (H _ _)))) (fun g => absurd g (by omega)) (nI_add t z)
  · intro n i s' hi hti hw
    exact pk_le (t + z) i (fun g => absurd g (by omega)) (fun _ => cu_place i (by omega) (fun X' Y' => cu_has hs hc h1 h hk (v := i) (by omega) (by omega) (cu_d1 i (by omega)) (cu_d2 i (by omega))
      (br_f (by decide) (nm_r (nI_1 i) (hw (X', Y') (by omega)))))) (nI_add t z)
theorem cu_sz {z : Nat} (hz : z = 1 ∨ z = 4 ∨ z = 16 ∨ z = 64 ∨ z = 256) : cu_lv z ≤ 4 ∧ (256 : Int32) >>> ((2 * nI (cu_lv z)) &&& 31) = nI z := by
  rcases hz with rfl | rfl | rfl | rfl | rfl <;> decide
/-- what a square of a set is -/
def cu_Q (f l : Nat → Nat) (c t z : Nat) : Prop := (z = 1 ∨ z = 4 ∨ z = 16 ∨ z = 64 ∨ z = 256) ∧ ∃ kk, kk < c ∧ f kk ≤ t ∧ t + z ≤ l kk + 1
theorem cu_p14 {post : Int32 → St1 → Prop} {s c : Nat} {f l : Nat → Nat} (hs : s < 4) (hc : c ≤ 40) (h1 : a1 s = nI c) (h : cu_S a2 a3 (40 * s) c f l) (H : ∀ X Y, post 1 (m, X, Y, a1, a2, a3, a4, a5)) :
    ∀ d k e sm X Y, k + d = (cu_R f l c 0).length → cu_C (cu_Q f l c) e ((cu_R f l c 0).drop k) → sm + cu_z ((cu_R f l c 0).drop k) = cu_T f l c 0 → e ≤ 256 →
      wL_pieced_14 post (nI s) (nI (cu_R f l c 0).length) (d + 1) (nI e) (nI sm) (nI k) m X Y a1 a2 a3 a4 a5 := by
  have hL := cu_R_len f l c 0
  generalize hR : cu_R f l c 0 = R at *
  intro d
  induction d with
  | zero =>
    intro k e sm X Y hk _ hS _
    rw [List.drop_eq_nil_of_le (by omega)] at hS
    have e0 : nI sm = nI (cu_T f l c 0) := congrArg nI hS
    refine pk_le R.length k (fun _ => cu_cells hs hc h1 h (br_t e0 (cu_piece hs hc h1 h (by omega) (fun p hp => ?_) (fun _ => br_t rfl (H X Y))))) (fun g => absurd g (by omega))
    rw [hR, List.getElem?_eq_none (Nat.le_refl _)] at hp
    cases hp
  | succ d ih =>
    intro k e sm X Y hk hC hS he
    have hkl : k < R.length := by omega
    rw [List.drop_eq_getElem_cons hkl] at hC hS
    obtain ⟨c1, ⟨c2, kk, c3, c4, c5⟩, c6⟩ := hC
    have hS' : sm + ((R[k]).2 + cu_z (R.drop (k + 1))) = cu_T f l c 0 := hS
    generalize hp : R[k] = p at *
    obtain ⟨t, z⟩ := p
    have hl := (h.1 kk c3).2.2.2
    obtain ⟨s1, s2⟩ := cu_sz (z := z) c2
    have hz1 : 1 ≤ z := by
      rcases c2 with g | g | g | g | g <;> omega
    have c1' : e ≤ t := c1
    have c5' : t + z ≤ l kk + 1 := c5
    refine pk_le R.length k (fun g => absurd g (by omega)) (fun _ => cu_piece hs hc h1 h (by omega) (fun p hq => ?_) (fun g => absurd g (by rw [hR]; omega)))
    rw [hR, List.getElem?_eq_getElem hkl, hp] at hq
    cases hq
    have e7 : nI (256 * cu_lv z + t) >>> ((8 : Int32) &&& 31) = nI (cu_lv z) := (pk_shrN (by omega) _ 8 (by decide)).trans (congrArg nI (by omega))
    have e8 : nI (256 * cu_lv z + t) &&& 255 = nI t := (pk_andN (by omega) 8 (by decide)).trans (congrArg nI (by omega))
    refine nm_r e7 (nm_r e8 (nm_r s2 (pk_lt (256 * cu_lv z + t) 0 (fun g => absurd g (by omega)) (fun _ => pk_lt 4 (cu_lv z) (fun g => absurd g (by omega)) (fun _ => pk_le e t (fun _ => ?_) (fun g => absurd g (by omega)))))))
    refine cu_p77 hs hc h1 h c3 c4 c5 (fun X' Y' => ?_) X Y
    rw [nI_add, nI_1]
    exact ih (k + 1) (t + z) (sm + z) X' Y' (by omega) c6 (by
      have : sm + (z + cu_z (R.drop (k + 1))) = cu_T f l c 0 := hS'
      omega) (by omega)
theorem cu_pieced {post : Int32 → St1 → Prop} {s : Nat} (hI : cu_I a1 a2 a3) (hs : s < 4) (H : ∀ X Y, post 1 (m, X, Y, a1, a2, a3, a4, a5)) : wpL_pieced post (m, x, y, a1, a2, a3, a4, a5) (nI s) := by
  obtain ⟨c, f, l, hc, h1, h⟩ := hI s hs
  have hC : cu_C (cu_Q f l c) 0 (cu_R f l c 0) := cu_C_R (fun k hk => (h.1 k hk).2.2.1) h.2 (fun k hk t g1 g2 => ⟨(cu_la_in t (l k) g2).1, k, hk, g1, (cu_la_in t (l k) g2).2⟩) c 0 0 (by omega) (fun _ => Nat.zero_le _)
  have hZ : cu_z (cu_R f l c 0) = cu_T f l c 0 := cu_z_R (fun k hk => (h.1 k hk).2.2) c 0 (by omega)
  unfold wpL_pieced
  exact cu_pieces hs hc h1 h ⟨(cu_R f l c 0).length + 1, cu_p14 hs hc h1 h H (cu_R f l c 0).length 0 0 0 x y (by omega) hC (by rw [List.drop_zero, hZ, Nat.zero_add]) (by omega)⟩
theorem cu_c91 {post : Int32 → St1 → Prop} (H : ∀ X Y, post 1 (m, X, Y, a1, a2, a3, a4, a5)) (X Y : Int32) : ∃ fu, wL_curve_91 post fu 0 m X Y a1 a2 a3 a4 a5 := by
  refine pk_loop (σ := Int32 × Int32) (fun n i s => wL_curve_91 post n (nI i) m s.1 s.2 a1 a2 a3 a4 a5) (fun _ _ => True) 256 0 (X, Y) (by omega) trivial ?_ ?_
  · intro n s _
    exact pk_le 256 256 (fun _ => H _ _) (fun g => absurd g (by omega))
  · intro n i s hi _ hw
    refine pk_le 256 i (fun g => absurd g (by omega)) (fun _ => cu_pubnum (cu_d3 i hi) ?_)
    obtain ⟨r, hr, e⟩ := cu_N_lt (nI i >>> ((4 : Int32) &&& 31)) (nI i &&& 15)
    have e4 := cu_d4 i hi
    rw [e] at e4
    exact cu_place r hr (fun X' Y' => br_t e4 (nm_r (nI_1 i) (hw (X', Y') trivial))) e
theorem cu_c8 {post : Int32 → St1 → Prop} (H : ∀ X Y, post 1 (m, X, Y, a1, a2, a3, a4, a5)) (X Y : Int32) : ∃ fu, wL_curve_8 post fu (cu_p (nI 0)) 0 m X Y a1 a2 a3 a4 a5 := by
  refine pk_loop (σ := Int32 × Int32 × Int32) (fun n i s => wL_curve_8 post n s.1 (nI i) m s.2.1 s.2.2 a1 a2 a3 a4 a5) (fun i s => s.1 = cu_p (nI (i - 1))) 256 0 (cu_p (nI 0), X, Y) (by omega) rfl ?_ ?_
  · intro n s _
    exact pk_le 256 256 (fun _ => cu_c91 H _ _) (fun g => absurd g (by omega))
  · intro n i s hi hs hw
    obtain ⟨b, X0, Y0⟩ := s
    have hs' : b = cu_p (nI (i - 1)) := hs
    subst hs'
    refine pk_le 256 i (fun g => absurd g (by omega)) (fun _ => cu_place i hi (fun X' Y' => nm_e (nm_e (cu_pubnum (cu_d1 i hi) ?_))))
    refine br_t (cu_d2 i hi) (pk_eq i 0 (fun e => ?_) (fun e => ?_))
    · subst e
      exact br_t cu_d6 (nm_r (nI_1 0) (hw (cu_p (nI 0), X', Y') rfl))
    · obtain ⟨j, rfl⟩ : ∃ j, i = j + 1 := ⟨i - 1, by omega⟩
      exact br_t (cu_d5 j (by omega)) (nm_r (nI_1 (j + 1)) (hw (cu_p (nI (j + 1)), X', Y') rfl))
theorem cu_curve {post : Int32 → St1 → Prop} (H : ∀ X Y, post 1 (m, X, Y, a1, a2, a3, a4, a5)) : wpL_curve post (m, x, y, a1, a2, a3, a4, a5) := by
  unfold wpL_curve
  exact cu_place 0 (by omega) (fun X Y => cu_c8 H X Y)
end
end
section
theorem cu_square {post : Int32 → Prop} {p0 : Int32} (H : ∀ r, post r) : wpL_square post () p0 := ⟨by decide, nm_e (nm_e (H _))⟩
theorem cu_cmp {L i : Nat} (hL : L ≤ 260) (hi : i ≤ 300) : Int32.ofNat L - 3 < nI i ↔ L < i + 3 := by
  have e : (nI L - nI 3).toInt = (L : Int) - (3 : Nat) := pk_sub_toInt (by omega) (by omega)
  have e2 : (nI i).toInt = (i : Int) := nI_toInt (by omega)
  show nI L - nI 3 < nI i ↔ L < i + 3
  rw [Int32.lt_iff_toInt_lt, e, e2]
  omega
theorem cu_law {xs : Nat → Int32} {L kc ks : Nat} (hL : L ≤ 260) : ∀ w i m x y a1 a2 a3 a4 a5, L + 3 - i < w → i ≤ L + 3 → cu_I a1 a2 a3 → wL_law_10 (fun r => r = 1) L xs kc ks w (nI i) m x y a1 a2 a3 a4 a5 := by
  intro w
  induction w with
  | zero => intro i m x y a1 a2 a3 a4 a5 hw; omega
  | succ w ih =>
    intro i m x y a1 a2 a3 a4 a5 hw hi hI
    refine ek_if (cu_cmp hL (by omega)) (fun _ => ?_) (fun g => ?_)
    · exact cu_pieced (s := 0) hI (by omega) (fun X Y => br_f (by decide) (cu_pieced (s := 3) hI (by omega) (fun X' Y' => br_f (by decide) (cu_curve (fun X2 Y2 => br_f (by decide) rfl)))))
    · have e1 : nI i + 1 = nI (i + 1) := nI_1 i
      have e2 : nI i + 2 = nI (i + 2) := nI_add i 2
      have e3 : nI i + 3 = nI (i + 3) := nI_add i 3
      obtain ⟨s, hs, es⟩ := pk_andE (xs (nI i + 1).toNatClampNeg) (m := 3) 2 (by decide)
      have hs4 : s < 4 := hs
      have K : ∀ m' x' y' b1 b2 b3 b4 b5, cu_I b1 b2 b3 → wL_law_124 (fun r => r = 1) L xs (wL_law_10 (fun r => r = 1) L xs kc ks w) (nI i) (nI s) kc ks m' x' y' b1 b2 b3 b4 b5 := by
        intro m' x' y' b1 b2 b3 b4 b5 hI'
        unfold wL_law_124
        exact cu_pieced hI' hs4 (fun X Y => br_f (by decide) (nm_r e3 (ih (i + 3) m' X Y b1 b2 b3 b4 b5 (by omega) (by omega) hI')))
      obtain ⟨a, ha, ea⟩ := pk_andE (xs (nI i + 2).toNatClampNeg >>> ((8 : Int32) &&& 31)) (m := 3) 2 (by decide)
      obtain ⟨b, hb, eb⟩ := pk_andE (xs (nI i + 2).toNatClampNeg >>> ((10 : Int32) &&& 31)) (m := 3) 2 (by decide)
      refine ⟨pk_in (i + 1) L (by omega) e1, nm_r es ⟨pk_in (i + 2) L (by omega) e2, nm_e (cu_square (fun q => ⟨pk_in i L (by omega), nm_e ?_⟩))⟩⟩
      exact br_c (fun _ => cu_change hI hs4 (fun r m' x' y' b1 b2 b3 b4 b5 h => K m' x' y' b1 b2 b3 b4 b5 h))
        (fun _ => br_c (fun _ => cu_change hI hs4 (fun r m' x' y' b1 b2 b3 b4 b5 h => K m' x' y' b1 b2 b3 b4 b5 h))
        (fun _ => br_c (fun _ => ⟨by decide, cu_combine hI hs4 ha hb ea eb (fun r m' x' y' b1 b2 b3 b4 b5 h => K m' x' y' b1 b2 b3 b4 b5 h)⟩)
        (fun _ => br_c (fun _ => cu_change hI hs4 (fun r m' x' y' b1 b2 b3 b4 b5 h => K m' x' y' b1 b2 b3 b4 b5 h))
        (fun _ => br_c (fun _ => cu_change hI hs4 (fun r m' x' y' b1 b2 b3 b4 b5 h => K m' x' y' b1 b2 b3 b4 b5 h)) (fun _ => trivial)))))
theorem i_vc (xs : Nat → Int32) (L : Nat) (hL : L ≤ 260) : wpL_law (fun r => r = 1) L xs :=
  ⟨5, 573, by decide, by decide, by decide, by decide, by decide, by decide, by decide, by decide, by decide, by decide, by decide, by decide,
    ⟨L + 4, cu_law hL (L + 4) 0 0 0 0 _ _ _ _ _ (by omega) (by omega) cu_I_0⟩⟩
end

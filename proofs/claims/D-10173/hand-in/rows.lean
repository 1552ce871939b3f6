section
/-! tables of derivations: a cell holds the list of its derivations, a derivation is the list of its arcs 6h+d -/
abbrev sd_T : Type := Nat → List (List Nat)
def sd_up (T : sd_T) (c : Nat) (v : List (List Nat)) : sd_T := fun j => if j = c then v else T j
def sd_pr (e : List Nat) (A B : List (List Nat)) : List (List Nat) := A.flatMap (fun x => B.map (fun y => e ++ (x ++ y)))
def sd_jn (c a b : Nat) (e : List Nat) (T : sd_T) : sd_T := sd_up T c (T c ++ sd_pr e (T a) (T b))
/-- m turns from k -/
def sd_lp (f : Nat → sd_T → sd_T) : Nat → Nat → sd_T → sd_T
  | 0, _, T => T
  | m + 1, k, T => sd_lp f m (k + 1) (f k T)
def sd_fb (i j k : Nat) (T : sd_T) : sd_T := if 0 < i then sd_jn (108 + (6 * i + j)) (6 * i + k) (36 + 6 * (k + 1) + j) [6 * j + i] T else T
def sd_f1 (i j k : Nat) (T : sd_T) : sd_T := sd_fb i j k (sd_jn (72 + (6 * i + j)) (6 * i + k) (36 + 6 * (k + 1) + j) [6 * i + j] T)
def sd_f2 (i j k : Nat) (T : sd_T) : sd_T := sd_jn (6 * i + j) (72 + 6 * i + k) (6 * k + j) [] T
def sd_f3 (i j k : Nat) (T : sd_T) : sd_T := sd_jn (36 + (6 * i + j)) (36 + 6 * i + k) (108 + 6 * k + j) [] T
def sd_sp (i j : Nat) (T : sd_T) : sd_T := sd_lp (sd_f3 i j) (j - i) i (sd_lp (sd_f2 i j) (j - i) (i + 1) (sd_lp (sd_f1 i j) (j - i) i T))
def sd_ws (n w : Nat) (T : sd_T) : sd_T := sd_lp (fun i T => sd_sp i (i + w) T) (n + 1 - w) 0 T
def sd_bg (i : Nat) (T : sd_T) : sd_T := sd_up (sd_up T (7 * i) [[]]) (36 + 7 * i) [[]]
def sd_g1 (n d : Nat) (T : sd_T) : sd_T := sd_jn 144 (42 + d) (6 * d + n) [d] T
def sd_gl (n rt : Nat) (T : sd_T) : sd_T := if rt = 0 then sd_jn 144 n 0 [] T else sd_lp (sd_g1 n) n 1 T
def sd_t0 (n : Nat) : sd_T := sd_lp sd_bg (n + 1) 0 (fun _ => [])
def sd_t1 (n : Nat) : sd_T := sd_lp (sd_ws n) n 1 (sd_t0 n)
def sd_ft (n rt : Nat) : sd_T := sd_gl n rt (sd_t1 n)
/-- the head of word d -/
def sd_hd (x : List Nat) (d : Nat) : Nat := ((x.filter (fun e => e % 6 == d)).headD 0) / 6
/-! tables grow -/
def sd_le (T U : sd_T) : Prop := ∀ c, (T c).length ≤ (U c).length ∧ ∀ x, x ∈ T c → x ∈ U c
theorem sd_le_r (T : sd_T) : sd_le T T := fun _ => ⟨Nat.le_refl _, fun _ h => h⟩
theorem sd_le_t {T U V : sd_T} (h : sd_le T U) (g : sd_le U V) : sd_le T V := fun c => ⟨Nat.le_trans (h c).1 (g c).1, fun x hx => (g c).2 x ((h c).2 x hx)⟩
theorem sd_up_s {T : sd_T} {c : Nat} {v : List (List Nat)} : sd_up T c v c = v := if_pos rfl
theorem sd_up_n {T : sd_T} {c j : Nat} {v : List (List Nat)} (h : j ≠ c) : sd_up T c v j = T j := if_neg h
theorem sd_le_j (c a b : Nat) (e : List Nat) (T : sd_T) : sd_le T (sd_jn c a b e T) := by
  intro j
  by_cases h : j = c
  · subst h
    unfold sd_jn
    rw [sd_up_s]
    exact ⟨by rw [List.length_append]; omega, fun x hx => List.mem_append_left _ hx⟩
  · unfold sd_jn
    rw [sd_up_n h]
    exact ⟨Nat.le_refl _, fun _ hx => hx⟩
theorem sd_le_lp {f : Nat → sd_T → sd_T} (hf : ∀ k T, sd_le T (f k T)) : ∀ m k T, sd_le T (sd_lp f m k T)
  | 0, _, T => sd_le_r T
  | m + 1, k, T => sd_le_t (hf k T) (sd_le_lp hf m (k + 1) (f k T))
theorem sd_le_fb (i j k : Nat) (T : sd_T) : sd_le T (sd_fb i j k T) := by
  unfold sd_fb
  by_cases h : 0 < i
  · rw [if_pos h]
    exact sd_le_j _ _ _ _ _
  · rw [if_neg h]
    exact sd_le_r _
theorem sd_le_f1 (i j k : Nat) (T : sd_T) : sd_le T (sd_f1 i j k T) := sd_le_t (sd_le_j _ _ _ _ _) (sd_le_fb _ _ _ _)
theorem sd_le_f2 (i j k : Nat) (T : sd_T) : sd_le T (sd_f2 i j k T) := sd_le_j _ _ _ _ _
theorem sd_le_f3 (i j k : Nat) (T : sd_T) : sd_le T (sd_f3 i j k T) := sd_le_j _ _ _ _ _
theorem sd_le_g1 (n d : Nat) (T : sd_T) : sd_le T (sd_g1 n d T) := sd_le_j _ _ _ _ _
theorem sd_le_sp (i j : Nat) (T : sd_T) : sd_le T (sd_sp i j T) := sd_le_t (sd_le_lp (sd_le_f1 i j) _ _ _) (sd_le_t (sd_le_lp (sd_le_f2 i j) _ _ _) (sd_le_lp (sd_le_f3 i j) _ _ _))
theorem sd_le_ws (n w : Nat) (T : sd_T) : sd_le T (sd_ws n w T) := sd_le_lp (fun i T => sd_le_sp i (i + w) T) _ _ _
theorem sd_le_gl (n rt : Nat) (T : sd_T) : sd_le T (sd_gl n rt T) := by
  unfold sd_gl
  by_cases h : rt = 0
  · rw [if_pos h]
    exact sd_le_j _ _ _ _ _
  · rw [if_neg h]
    exact sd_le_lp (sd_le_g1 n) _ _ _
/-- small: few derivations in a cell, few arcs in a derivation -/
def sd_Gd (T : sd_T) : Prop := ∀ c, c < 145 → (T c).length ≤ 1000000 ∧ ∀ x, x ∈ T c → x.length ≤ 5 ∧ ∀ e, e ∈ x → e < 36
theorem sd_Gd_le {T U : sd_T} (h : sd_le T U) (g : sd_Gd U) : sd_Gd T := fun c hc => ⟨Nat.le_trans (h c).1 (g c hc).1, fun x hx => (g c hc).2 x ((h c).2 x hx)⟩
end
section
/-! the ten final tables, looked at -/
def sd_ck (n rt : Nat) : Bool :=
  (List.range 145).all (fun c => decide ((sd_ft n rt c).length ≤ 1000000) && (sd_ft n rt c).all (fun x => decide (x.length ≤ 5) && x.all (fun e => decide (e < 36)))) &&
  (sd_ft n rt 144).all (fun x => x.all (fun e => decide (1 ≤ e % 6) && decide (e % 6 ≤ n)) &&
    (List.range n).all (fun d => decide (x.filter (fun e => e % 6 == d + 1) = [6 * sd_hd x (d + 1) + (d + 1)]) && decide (sd_hd x (d + 1) ≤ n) && decide (sd_hd x (d + 1) ≠ d + 1)))
theorem sd_ck1 : sd_ck 1 0 = true := by decide +kernel
theorem sd_ck2 : sd_ck 2 0 = true := by decide +kernel
theorem sd_ck3 : sd_ck 3 0 = true := by decide +kernel
theorem sd_ck4 : sd_ck 4 0 = true := by decide +kernel
theorem sd_ck5 : sd_ck 5 0 = true := by decide +kernel
theorem sd_ck6 : sd_ck 1 1 = true := by decide +kernel
theorem sd_ck7 : sd_ck 2 1 = true := by decide +kernel
theorem sd_ck8 : sd_ck 3 1 = true := by decide +kernel
theorem sd_ck9 : sd_ck 4 1 = true := by decide +kernel
theorem sd_ck10 : sd_ck 5 1 = true := by decide +kernel
theorem sd_cka {n rt : Nat} (h1 : 1 ≤ n) (h5 : n ≤ 5) (hr : rt ≤ 1) : sd_ck n rt = true := by
  rcases (show rt = 0 ∨ rt = 1 by omega) with rfl | rfl
  · rcases (show n = 1 ∨ n = 2 ∨ n = 3 ∨ n = 4 ∨ n = 5 by omega) with rfl | rfl | rfl | rfl | rfl
    · exact sd_ck1
    · exact sd_ck2
    · exact sd_ck3
    · exact sd_ck4
    · exact sd_ck5
  · rcases (show n = 1 ∨ n = 2 ∨ n = 3 ∨ n = 4 ∨ n = 5 by omega) with rfl | rfl | rfl | rfl | rfl
    · exact sd_ck6
    · exact sd_ck7
    · exact sd_ck8
    · exact sd_ck9
    · exact sd_ck10
theorem sd_gd {n rt : Nat} (h1 : 1 ≤ n) (h5 : n ≤ 5) (hr : rt ≤ 1) : sd_Gd (sd_ft n rt) := by
  have h := sd_cka h1 h5 hr
  unfold sd_ck at h
  rw [Bool.and_eq_true] at h
  have h2 := List.all_eq_true.mp h.1
  intro c hc
  have h3 := h2 c (List.mem_range.mpr hc)
  rw [Bool.and_eq_true] at h3
  refine ⟨of_decide_eq_true h3.1, fun x hx => ?_⟩
  have h4 := List.all_eq_true.mp h3.2 x hx
  rw [Bool.and_eq_true] at h4
  exact ⟨of_decide_eq_true h4.1, fun e he => of_decide_eq_true (List.all_eq_true.mp h4.2 e he)⟩
/-- what is known of a derivation of the goal -/
def sd_Dx (n : Nat) (x : List Nat) : Prop := x.length ≤ 5 ∧ (∀ e, e ∈ x → e < 36 ∧ 1 ≤ e % 6 ∧ e % 6 ≤ n) ∧ ∀ d, 1 ≤ d → d ≤ n → sd_hd x d ≤ n ∧ sd_hd x d ≠ d ∧ 6 * sd_hd x d + d ∈ x ∧ ∀ e, e ∈ x → e % 6 = d → e = 6 * sd_hd x d + d
theorem sd_dx {n rt : Nat} (h1 : 1 ≤ n) (h5 : n ≤ 5) (hr : rt ≤ 1) {x : List Nat} (hx : x ∈ sd_ft n rt 144) : sd_Dx n x := by
  have hg := (sd_gd h1 h5 hr 144 (by decide)).2 x hx
  have h := sd_cka h1 h5 hr
  unfold sd_ck at h
  rw [Bool.and_eq_true] at h
  have h2 := List.all_eq_true.mp h.2 x hx
  rw [Bool.and_eq_true] at h2
  refine ⟨hg.1, fun e he => ?_, fun d hd1 hdn => ?_⟩
  · have h3 := List.all_eq_true.mp h2.1 e he
    rw [Bool.and_eq_true] at h3
    exact ⟨hg.2 e he, of_decide_eq_true h3.1, of_decide_eq_true h3.2⟩
  · obtain ⟨d, rfl⟩ : ∃ k, d = k + 1 := ⟨d - 1, by omega⟩
    have h3 := List.all_eq_true.mp h2.2 d (List.mem_range.mpr (by omega))
    rw [Bool.and_eq_true, Bool.and_eq_true] at h3
    have h4 := of_decide_eq_true h3.1.1
    refine ⟨of_decide_eq_true h3.1.2, of_decide_eq_true h3.2, ?_, fun e he hed => ?_⟩
    · have h6 : 6 * sd_hd x (d + 1) + (d + 1) ∈ x.filter (fun e => e % 6 == d + 1) := by rw [h4]; exact List.mem_singleton.mpr rfl
      exact (List.mem_filter.mp h6).1
    · have h6 : e ∈ x.filter (fun e => e % 6 == d + 1) := List.mem_filter.mpr ⟨he, beq_iff_eq.mpr hed⟩
      rw [h4] at h6
      exact List.mem_singleton.mp h6
end
section
/-! the score of a derivation, the allowed ones, the greatest score -/
def sd_sc (a1 : Nat → Int32) : List Nat → Int
  | [] => 0
  | e :: x => (a1 e).toInt + sd_sc a1 x
theorem sd_sc_app (a1 : Nat → Int32) (x y : List Nat) : sd_sc a1 (x ++ y) = sd_sc a1 x + sd_sc a1 y := by
  induction x with
  | nil => show sd_sc a1 y = 0 + sd_sc a1 y; omega
  | cons e x ih => show (a1 e).toInt + sd_sc a1 (x ++ y) = (a1 e).toInt + sd_sc a1 x + sd_sc a1 y; rw [ih]; omega
def sd_S (a1 : Nat → Int32) : Prop := ∀ e, e < 36 → -1000 ≤ (a1 e).toInt ∧ (a1 e).toInt ≤ 1000
theorem sd_sc_b {a1 : Nat → Int32} (hS : sd_S a1) (x : List Nat) (hx : ∀ e, e ∈ x → e < 36) : -1000 * (x.length : Int) ≤ sd_sc a1 x ∧ sd_sc a1 x ≤ 1000 * (x.length : Int) := by
  induction x with
  | nil => exact ⟨Int.le_refl 0, Int.le_refl 0⟩
  | cons e x ih =>
    have h1 := hS e (hx e (List.mem_cons_self ..))
    have h2 := ih (fun z hz => hx z (List.mem_cons_of_mem _ hz))
    show -1000 * ((x.length + 1 : Nat) : Int) ≤ (a1 e).toInt + sd_sc a1 x ∧ (a1 e).toInt + sd_sc a1 x ≤ 1000 * ((x.length + 1 : Nat) : Int)
    omega
theorem sd_sc_5 {a1 : Nat → Int32} (hS : sd_S a1) {x : List Nat} (h : x.length ≤ 5 ∧ ∀ e, e ∈ x → e < 36) : -5000 ≤ sd_sc a1 x ∧ sd_sc a1 x ≤ 5000 := by
  have h1 := sd_sc_b hS x h.2
  have h2 := h.1
  omega
def sd_F (ok : Nat → Bool) (A : List (List Nat)) : List (List Nat) := A.filter (fun x => x.all ok)
def sd_mx (a1 : Nat → Int32) (F : List (List Nat)) (g : Int32) : Prop := (∀ x, x ∈ F → sd_sc a1 x ≤ g.toInt) ∧ ∃ x, x ∈ F ∧ sd_sc a1 x = g.toInt
theorem sd_F_app (ok : Nat → Bool) (A B : List (List Nat)) : sd_F ok (A ++ B) = sd_F ok A ++ sd_F ok B := List.filter_append ..
theorem sd_F_mem {ok : Nat → Bool} {A : List (List Nat)} {x : List Nat} : x ∈ sd_F ok A ↔ x ∈ A ∧ x.all ok = true := List.mem_filter
theorem sd_F_len (ok : Nat → Bool) (A : List (List Nat)) : (sd_F ok A).length ≤ A.length := List.length_filter_le ..
theorem sd_pr_cons (e x : List Nat) (A B : List (List Nat)) : sd_pr e (x :: A) B = B.map (fun y => e ++ (x ++ y)) ++ sd_pr e A B := rfl
theorem sd_pr_len (e : List Nat) (A B : List (List Nat)) : (sd_pr e A B).length = A.length * B.length := by
  induction A with
  | nil => exact (Nat.zero_mul _).symm
  | cons x A ih => rw [sd_pr_cons, List.length_append, List.length_map, ih, List.length_cons, Nat.succ_mul, Nat.add_comm]
theorem sd_pr_mem {e z : List Nat} {A B : List (List Nat)} : z ∈ sd_pr e A B ↔ ∃ x, x ∈ A ∧ ∃ y, y ∈ B ∧ e ++ (x ++ y) = z := by
  unfold sd_pr
  rw [List.mem_flatMap]
  constructor
  · rintro ⟨x, hx, h⟩
    exact ⟨x, hx, List.mem_map.mp h⟩
  · rintro ⟨x, hx, h⟩
    exact ⟨x, hx, List.mem_map.mpr h⟩
theorem sd_all_app (ok : Nat → Bool) (e x y : List Nat) : (e ++ (x ++ y)).all ok = (e.all ok && (x.all ok && y.all ok)) := by
  rw [List.all_append, List.all_append]
theorem sd_F_map {ok : Nat → Bool} {e x : List Nat} (he : e.all ok = true) (hx : x.all ok = true) (B : List (List Nat)) : sd_F ok (B.map (fun y => e ++ (x ++ y))) = (sd_F ok B).map (fun y => e ++ (x ++ y)) := by
  induction B with
  | nil => rfl
  | cons y B ih =>
    unfold sd_F at ih ⊢
    rw [List.map_cons, List.filter_cons, List.filter_cons, sd_all_app, he, hx, Bool.true_and, Bool.true_and, ih]
    by_cases h : y.all ok = true
    · rw [if_pos h, if_pos h, List.map_cons]
    · rw [if_neg h, if_neg h]
theorem sd_F_map0 {ok : Nat → Bool} {e x : List Nat} (h : (e.all ok && x.all ok) = false) (B : List (List Nat)) : sd_F ok (B.map (fun y => e ++ (x ++ y))) = [] := by
  unfold sd_F
  rw [List.filter_eq_nil_iff]
  intro z hz
  obtain ⟨y, _, rfl⟩ := List.mem_map.mp hz
  rw [sd_all_app, ← Bool.and_assoc, h]
  exact Bool.false_ne_true
theorem sd_F_pr {ok : Nat → Bool} {e : List Nat} (he : e.all ok = true) (A B : List (List Nat)) : sd_F ok (sd_pr e A B) = sd_pr e (sd_F ok A) (sd_F ok B) := by
  induction A with
  | nil => rfl
  | cons x A ih =>
    rw [sd_pr_cons, sd_F_app, ih]
    by_cases hx : x.all ok = true
    · rw [sd_F_map he hx, show sd_F ok (x :: A) = x :: sd_F ok A from List.filter_cons_of_pos hx, sd_pr_cons]
    · rw [sd_F_map0 (by rw [he, Bool.true_and]; exact Bool.eq_false_iff.mpr hx), show sd_F ok (x :: A) = sd_F ok A from List.filter_cons_of_neg hx, List.nil_append]
theorem sd_F_pr0 {ok : Nat → Bool} {e : List Nat} (he : e.all ok = false) (A B : List (List Nat)) : sd_F ok (sd_pr e A B) = [] := by
  unfold sd_F
  rw [List.filter_eq_nil_iff]
  intro z hz
  obtain ⟨x, _, y, _, rfl⟩ := sd_pr_mem.mp hz
  rw [sd_all_app, he]
  exact Bool.false_ne_true
/-- the state's two tables against the picture -/
def sd_M (ok : Nat → Bool) (a1 : Nat → Int32) (T : sd_T) (a4 a6 : Nat → Int32) : Prop := ∀ c, c < 145 → a6 c = nI (sd_F ok (T c)).length ∧ (sd_F ok (T c) ≠ [] → sd_mx a1 (sd_F ok (T c)) (a4 c))
theorem sd_jn_s (c a b : Nat) (e : List Nat) (T : sd_T) : sd_jn c a b e T c = T c ++ sd_pr e (T a) (T b) := if_pos rfl
theorem sd_jn_n {c a b j : Nat} {e : List Nat} {T : sd_T} (h : j ≠ c) : sd_jn c a b e T j = T j := if_neg h
/-- nothing is added -/
theorem sd_M_keep {ok : Nat → Bool} {a1 : Nat → Int32} {T : sd_T} {a4 a6 : Nat → Int32} {c a b : Nat} {e : List Nat} (hM : sd_M ok a1 T a4 a6) (h : sd_F ok (sd_pr e (T a) (T b)) = []) : sd_M ok a1 (sd_jn c a b e T) a4 a6 := by
  intro j hj
  by_cases hc : j = c
  · subst hc
    rw [sd_jn_s, sd_F_app, h, List.append_nil]
    exact hM j hj
  · rw [sd_jn_n hc]
    exact hM j hj
theorem sd_M_skip {ok : Nat → Bool} {a1 : Nat → Int32} {T : sd_T} {a4 a6 : Nat → Int32} {c a b : Nat} {e : List Nat} (hM : sd_M ok a1 T a4 a6) (h : e.all ok = false) : sd_M ok a1 (sd_jn c a b e T) a4 a6 := sd_M_keep hM (sd_F_pr0 h _ _)
theorem sd_add {x y : Int32} (h1 : -100000 ≤ x.toInt) (h2 : x.toInt ≤ 100000) (h3 : -100000 ≤ y.toInt) (h4 : y.toInt ≤ 100000) : (x + y).toInt = x.toInt + y.toInt := by
  rw [Int32.toInt_add]
  exact Int.bmod_eq_of_le (by omega) (by omega)
theorem sd_nil0 {F : List (List Nat)} (h : F.length ≤ 1000000) : nI F.length = 0 ↔ F = [] := by
  rw [← nI_0, nI_eq (by omega) (by omega)]
  exact List.length_eq_zero_iff
theorem sd_mx_b {a1 : Nat → Int32} {F : List (List Nat)} {g : Int32} (hS : sd_S a1) (h : sd_mx a1 F g) (hb : ∀ x, x ∈ F → x.length ≤ 5 ∧ ∀ e, e ∈ x → e < 36) : -5000 ≤ g.toInt ∧ g.toInt ≤ 5000 := by
  obtain ⟨x, hx, e⟩ := h.2
  rw [← e]
  exact sd_sc_5 hS (hb x hx)
theorem sd_mx_pr {a1 : Nat → Int32} {A B : List (List Nat)} {e : List Nat} {g k t : Int32} (hA : sd_mx a1 A g) (hB : sd_mx a1 B k) (ht : t.toInt = g.toInt + k.toInt + sd_sc a1 e) : sd_mx a1 (sd_pr e A B) t := by
  constructor
  · intro z hz
    obtain ⟨x, hx, y, hy, rfl⟩ := sd_pr_mem.mp hz
    have h1 := hA.1 x hx
    have h2 := hB.1 y hy
    rw [sd_sc_app, sd_sc_app]
    omega
  · obtain ⟨x, hx, h1⟩ := hA.2
    obtain ⟨y, hy, h2⟩ := hB.2
    refine ⟨e ++ (x ++ y), sd_pr_mem.mpr ⟨x, hx, y, hy, rfl⟩, ?_⟩
    rw [sd_sc_app, sd_sc_app]
    omega
theorem sd_mx_l {a1 : Nat → Int32} {A B : List (List Nat)} {g t : Int32} (hA : sd_mx a1 A g) (hB : sd_mx a1 B t) (h : t.toInt ≤ g.toInt) : sd_mx a1 (A ++ B) g := by
  constructor
  · intro z hz
    rcases List.mem_append.mp hz with hz | hz
    · exact hA.1 z hz
    · exact Int.le_trans (hB.1 z hz) h
  · obtain ⟨x, hx, h1⟩ := hA.2
    exact ⟨x, List.mem_append_left _ hx, h1⟩
theorem sd_mx_r {a1 : Nat → Int32} {A B : List (List Nat)} {g t : Int32} (hA : sd_mx a1 A g) (hB : sd_mx a1 B t) (h : g.toInt ≤ t.toInt) : sd_mx a1 (A ++ B) t := by
  constructor
  · intro z hz
    rcases List.mem_append.mp hz with hz | hz
    · exact Int.le_trans (hA.1 z hz) h
    · exact hB.1 z hz
  · obtain ⟨x, hx, h1⟩ := hB.2
    exact ⟨x, List.mem_append_right _ hx, h1⟩
/-- a join that adds: what stands at c afterwards -/
theorem sd_M_put {ok : Nat → Bool} {a1 : Nat → Int32} {T : sd_T} {a4 a6 b4 : Nat → Int32} {c a b : Nat} {e : List Nat} (hc : c < 145) (ha : a < 145) (hb : b < 145) (he : e.all ok = true) (hM : sd_M ok a1 T a4 a6) (h4 : ∀ j, j ≠ c → b4 j = a4 j) (hm : sd_mx a1 (sd_F ok (T c) ++ sd_pr e (sd_F ok (T a)) (sd_F ok (T b))) (b4 c)) : sd_M ok a1 (sd_jn c a b e T) b4 (upd a6 c (a6 c + a6 a * a6 b)) := by
  intro j hj
  by_cases hjc : j = c
  · subst hjc
    rw [sd_jn_s, sd_F_app, sd_F_pr he, pk_us]
    refine ⟨?_, fun _ => hm⟩
    rw [List.length_append, sd_pr_len, (hM j hj).1, (hM a ha).1, (hM b hb).1, pk_mul, nI_add]
  · rw [sd_jn_n hjc, pk_un hjc, h4 j hjc]
    exact hM j hj
theorem sd_M_begin {ok : Nat → Bool} {a1 : Nat → Int32} {T : sd_T} {a4 a6 : Nat → Int32} {c : Nat} (hM : sd_M ok a1 T a4 a6) : sd_M ok a1 (sd_up T c [[]]) (upd a4 c 0) (upd a6 c 1) := by
  intro j hj
  by_cases hjc : j = c
  · subst hjc
    rw [sd_up_s, pk_us, pk_us]
    exact ⟨rfl, fun _ => ⟨fun x hx => by rw [List.mem_singleton.mp hx]; exact Int.le_refl 0, ⟨[], List.mem_singleton.mpr rfl, rfl⟩⟩⟩
  · rw [sd_up_n hjc, pk_un hjc, pk_un hjc]
    exact hM j hj
theorem sd_M_zero {ok : Nat → Bool} {a1 a4 a6 : Nat → Int32} (h : ∀ j, j < 145 → a6 j = 0) : sd_M ok a1 (fun _ => []) a4 a6 := fun c hc => ⟨h c hc, fun z => absurd rfl z⟩
end
section
/-! the walk of fill -/
theorem sd_ix (o i k : Nat) : (nI o + 6 * nI i) + nI k = nI (o + 6 * i + k) := by
  rw [show (6 : Int32) = nI 6 from rfl, pk_mul, nI_add, nI_add]
theorem sd_ix0 (i k : Nat) : (0 + 6 * nI i) + nI k = nI (6 * i + k) := by
  rw [Int32.zero_add, show (6 : Int32) = nI 6 from rfl, pk_mul, nI_add]
theorem sd_i6 (i k : Nat) : 6 * nI i + nI k = nI (6 * i + k) := by
  rw [show (6 : Int32) = nI 6 from rfl, pk_mul, nI_add]
theorem sd_ix1 (o i k : Nat) : (nI o + 6 * (nI i + 1)) + nI k = nI (o + 6 * (i + 1) + k) := by
  rw [nI_1, sd_ix]
theorem sd_sc1 (a1 : Nat → Int32) (e : Nat) : (a1 e).toInt = sd_sc a1 [e] := (Int.add_zero _).symm
theorem sd_all1 {ok : Nat → Bool} {e : Nat} {v : Bool} (h : ok e = v) : [e].all ok = v := by
  rw [List.all_cons, List.all_nil, Bool.and_true]
  exact h
def sd_ok (a2 : Nat → Int32) (lo : Int32) (a3 : Nat → Int32) (e : Nat) : Bool := decide (a2 e = 0 ∧ ¬ nI e = lo ∧ (a3 (e % 6) < 0 ∨ a3 (e % 6) = nI (e / 6)))
theorem sd_allowed {post : Int32 → Prop} {wc rt lo hk : Int32} {a1 a2 a3 a4 a5 a6 a7 : Nat → Int32} {h d : Nat} (hh : h ≤ 5) (hd : d ≤ 5) (H1 : sd_ok a2 lo a3 (6 * h + d) = true → post 1) (H0 : sd_ok a2 lo a3 (6 * h + d) = false → post 0) : wpX_allowed post (wc, rt, lo, hk, a1, a2, a3, a4, a5, a6, a7) (nI h) (nI d) := by
  have m1 : (6 * h + d) % 6 = d := by omega
  have m2 : (6 * h + d) / 6 = h := by omega
  unfold sd_ok at H1 H0
  rw [m1, m2] at H1 H0
  unfold wpX_allowed
  refine nm_r (sd_i6 h d) ?_
  rw [nI_clamp (n := 6 * h + d) (by omega), nI_clamp (n := d) (by omega)]
  refine ⟨pk_in (6 * h + d) 36 (by omega), br_c (fun g1 => br_c (fun g2 => H0 (decide_eq_false (fun z => z.2.1 g2))) (fun g2 => ⟨pk_in d 6 (by omega), br_c (fun g3 => H1 (decide_eq_true ⟨g1, g2, Or.inl g3⟩)) (fun g3 => ⟨pk_in d 6 (by omega), br_c (fun g4 => H1 (decide_eq_true ⟨g1, g2, Or.inr g4⟩)) (fun g4 => H0 (decide_eq_false (fun z => z.2.2.elim g3 g4)))⟩)⟩)) (fun g1 => H0 (decide_eq_false (fun z => g1 z.1)))⟩
theorem sd_113 {post : St2 → Prop} {wc rt lo hk : Int32} {a1 a2 a3 a4 a5 a6 a7 : Nat → Int32} {c a b : Nat} (hc : c < 145) (ha : a < 145) (hb : b < 145) (H : post (wc, rt, lo, hk, a1, a2, a3, a4, a5, upd a6 c (a6 c + a6 a * a6 b), a7)) : wX_join_113 post (nI c) (nI a) (nI b) wc rt lo hk a1 a2 a3 a4 a5 a6 a7 := by
  unfold wX_join_113
  rw [nI_clamp (n := c) (by omega), nI_clamp (n := a) (by omega), nI_clamp (n := b) (by omega)]
  exact ⟨pk_in c 145 hc, pk_in a 145 ha, pk_in b 145 hb, pk_in c 145 hc, nm_e H⟩
theorem sd_72 {post : St2 → Prop} {wc rt lo hk x5 x6 : Int32} {a1 a2 a3 a4 a5 a6 a7 : Nat → Int32} {c a b : Nat} (hc : c < 145) (ha : a < 145) (hb : b < 145) (H : post (wc, rt, lo, hk, a1, a2, a3, upd a4 c x5, upd a5 c x6, upd a6 c (a6 c + a6 a * a6 b), a7)) : wX_join_72 post (nI c) (nI a) (nI b) x5 x6 wc rt lo hk a1 a2 a3 a4 a5 a6 a7 := by
  unfold wX_join_72
  rw [nI_clamp (n := c) (by omega)]
  exact ⟨pk_in c 145 hc, nm_e ⟨pk_in c 145 hc, nm_e (sd_113 hc ha hb H)⟩⟩
theorem sd_join {post : St2 → Prop} {wc rt lo hk more pc pa pb : Int32} {a1 a2 a3 a4 a5 a6 a7 : Nat → Int32} {ok : Nat → Bool} {T : sd_T} {c a b : Nat} {e : List Nat} (hc : c < 145) (ha : a < 145) (hb : b < 145) (hpc : pc = nI c) (hpa : pa = nI a) (hpb : pb = nI b) (hS : sd_S a1) (hG : sd_Gd (sd_jn c a b e T)) (hm : more.toInt = sd_sc a1 e) (hmb : -1000 ≤ more.toInt ∧ more.toInt ≤ 1000) (he : e.all ok = true) (hM : sd_M ok a1 T a4 a6) (H : ∀ b4 b5 b6, sd_M ok a1 (sd_jn c a b e T) b4 b6 → post (wc, rt, lo, hk, a1, a2, a3, b4, b5, b6, a7)) : wpX_join post (wc, rt, lo, hk, a1, a2, a3, a4, a5, a6, a7) pc pa pb more := by
  subst hpc hpa hpb
  have hG0 := sd_Gd_le (sd_le_j c a b e T) hG
  have hL : ∀ j, j < 145 → (sd_F ok (T j)).length ≤ 1000000 := fun j hj => Nat.le_trans (sd_F_len ok (T j)) (hG0 j hj).1
  have hZ : ∀ j, j < 145 → (a6 j = 0 ↔ sd_F ok (T j) = []) := fun j hj => by rw [(hM j hj).1]; exact sd_nil0 (hL j hj)
  have hB : ∀ j, j < 145 → sd_F ok (T j) ≠ [] → -5000 ≤ (a4 j).toInt ∧ (a4 j).toInt ≤ 5000 := fun j hj hn => sd_mx_b hS ((hM j hj).2 hn) (fun x hx => (hG0 j hj).2 x (sd_F_mem.mp hx).1)
  unfold wpX_join
  rw [nI_clamp (n := c) (by omega), nI_clamp (n := a) (by omega), nI_clamp (n := b) (by omega)]
  refine ⟨pk_in a 145 ha, br_c (fun h => ?_) (fun h => ⟨pk_in b 145 hb, br_c (fun h2 => ?_) (fun h2 => ?_)⟩)⟩
  · exact H a4 a5 a6 (sd_M_keep hM (by rw [sd_F_pr he, (hZ a ha).mp h]; rfl))
  · exact H a4 a5 a6 (sd_M_keep hM (by rw [sd_F_pr he, (hZ b hb).mp h2]; exact List.eq_nil_of_length_eq_zero (by rw [sd_pr_len]; rfl)))
  · have nA : sd_F ok (T a) ≠ [] := fun z => h ((hZ a ha).mpr z)
    have nB : sd_F ok (T b) ≠ [] := fun z => h2 ((hZ b hb).mpr z)
    have bA := hB a ha nA
    have bB := hB b hb nB
    have t1 : (a4 a + a4 b).toInt = (a4 a).toInt + (a4 b).toInt := sd_add (by omega) (by omega) (by omega) (by omega)
    have t2 : (a4 a + a4 b + more).toInt = (a4 a).toInt + (a4 b).toInt + sd_sc a1 e := by
      rw [sd_add (by omega) (by omega) (by omega) (by omega), t1, hm]
    have mP := sd_mx_pr (e := e) ((hM a ha).2 nA) ((hM b hb).2 nB) t2
    refine ⟨pk_in a 145 ha, pk_in b 145 hb, nm_e ⟨pk_in a 145 ha, pk_in b 145 hb, nm_e ⟨pk_in c 145 hc, br_c (fun h3 => ?_) (fun h3 => ⟨pk_in c 145 hc, br_c (fun h4 => ?_) (fun h4 => ?_)⟩)⟩⟩⟩
    · refine sd_72 hc ha hb (H _ _ _ (sd_M_put hc ha hb he hM (fun j hj => pk_un hj) ?_))
      rw [pk_us, (hZ c hc).mp h3]
      exact mP
    · have mC := (hM c hc).2 (fun z => h3 ((hZ c hc).mpr z))
      have q := sd_M_put hc ha hb he hM (fun _ _ => rfl) (sd_mx_l mC mP (Int32.le_iff_toInt_le.mp h4))
      exact ⟨pk_in c 145 hc, br_c (fun h5 => ⟨pk_in c 145 hc, pk_in c 145 hc, nm_e (sd_113 hc ha hb (H _ _ _ q))⟩) (fun h5 => sd_113 hc ha hb (H _ _ _ q))⟩
    · have mC := (hM c hc).2 (fun z => h3 ((hZ c hc).mpr z))
      rw [Int32.le_iff_toInt_le] at h4
      refine sd_72 hc ha hb (H _ _ _ (sd_M_put hc ha hb he hM (fun j hj => pk_un hj) ?_))
      rw [pk_us]
      exact sd_mx_r mC mP (by omega)
theorem sd_sc0 (a1 : Nat → Int32) : (0 : Int32).toInt = sd_sc a1 [] := show (0 : Int32).toInt = 0 by decide
theorem sd_0b : (-1000 : Int) ≤ (0 : Int32).toInt ∧ (0 : Int32).toInt ≤ 1000 := by decide
theorem sd_l3 {post : St2 → Prop} {wc rt lo hk : Int32} {a1 a2 a3 a7 : Nat → Int32} {ok : Nat → Bool} {i j : Nat} (hj : j ≤ 5) (hS : sd_S a1) : ∀ (m k : Nat) (T : sd_T) (a4 a5 a6 : Nat → Int32), i ≤ k → k + m = j → sd_Gd (sd_lp (sd_f3 i j) m k T) → sd_M ok a1 T a4 a6 → (∀ b4 b5 b6, sd_M ok a1 (sd_lp (sd_f3 i j) m k T) b4 b6 → post (wc, rt, lo, hk, a1, a2, a3, b4, b5, b6, a7)) → wX_fillSpan_157 post (nI i) (nI j) (nI (6 * i + j)) (m + 1) (nI k) wc rt lo hk a1 a2 a3 a4 a5 a6 a7
  | 0, k, T, a4, a5, a6, hk1, hk2, hG, hM, H => pk_le j k (fun _ => H a4 a5 a6 hM) (fun z => absurd z (by omega))
  | m + 1, k, T, a4, a5, a6, hk1, hk2, hG, hM, H => pk_le j k (fun z => absurd z (by omega)) (fun _ => sd_join (c := 36 + (6 * i + j)) (a := 36 + 6 * i + k) (b := 108 + 6 * k + j) (e := []) (by omega) (by omega) (by omega) (nI_add 36 _) (sd_ix 36 i k) (sd_ix 108 k j) hS (sd_Gd_le (sd_le_lp (sd_le_f3 i j) m (k + 1) _) hG) (sd_sc0 a1) sd_0b rfl hM (fun b4 b5 b6 h => nm_r (nI_1 k) (sd_l3 hj hS m (k + 1) _ b4 b5 b6 (by omega) (by omega) hG h H)))
theorem sd_l2 {post : St2 → Prop} {wc rt lo hk : Int32} {a1 a2 a3 a7 : Nat → Int32} {ok : Nat → Bool} {i j : Nat} (hij : i < j) (hj : j ≤ 5) (hS : sd_S a1) : ∀ (m k : Nat) (T : sd_T) (a4 a5 a6 : Nat → Int32), i + 1 ≤ k → k + m = j + 1 → sd_Gd (sd_lp (sd_f3 i j) (j - i) i (sd_lp (sd_f2 i j) m k T)) → sd_M ok a1 T a4 a6 → (∀ b4 b5 b6, sd_M ok a1 (sd_lp (sd_f3 i j) (j - i) i (sd_lp (sd_f2 i j) m k T)) b4 b6 → post (wc, rt, lo, hk, a1, a2, a3, b4, b5, b6, a7)) → wX_fillSpan_115 post (nI i) (nI j) (nI (6 * i + j)) (m + 1) (nI k) wc rt lo hk a1 a2 a3 a4 a5 a6 a7
  | 0, k, T, a4, a5, a6, hk1, hk2, hG, hM, H => pk_lt j k (fun _ => ⟨j - i + 1, sd_l3 hj hS (j - i) i T a4 a5 a6 (Nat.le_refl i) (by omega) hG hM H⟩) (fun z => absurd z (by omega))
  | m + 1, k, T, a4, a5, a6, hk1, hk2, hG, hM, H => pk_lt j k (fun z => absurd z (by omega)) (fun _ => sd_join (c := 6 * i + j) (a := 72 + 6 * i + k) (b := 6 * k + j) (e := []) (by omega) (by omega) (by omega) (Int32.zero_add _) (sd_ix 72 i k) (sd_ix0 k j) hS (sd_Gd_le (sd_le_t (sd_le_lp (sd_le_f2 i j) m (k + 1) _) (sd_le_lp (sd_le_f3 i j) (j - i) i _)) hG) (sd_sc0 a1) sd_0b rfl hM (fun b4 b5 b6 h => nm_r (nI_1 k) (sd_l2 hij hj hS m (k + 1) _ b4 b5 b6 (by omega) (by omega) hG h H)))
theorem sd_68 {post : St2 → Prop} {J : Int32 → Int32 → Int32 → Int32 → Int32 → (Nat → Int32) → (Nat → Int32) → (Nat → Int32) → (Nat → Int32) → (Nat → Int32) → (Nat → Int32) → (Nat → Int32) → Prop} {wc rt lo hk : Int32} {a1 a2 a3 a4 a5 a6 a7 : Nat → Int32} {T : sd_T} {i j k : Nat} (hj : j ≤ 5) (hik : i ≤ k) (hkj : k < j) (hS : sd_S a1) (hG : sd_Gd (sd_fb i j k T)) (hM : sd_M (sd_ok a2 lo a3) a1 T a4 a6) (H : ∀ b4 b5 b6, sd_M (sd_ok a2 lo a3) a1 (sd_fb i j k T) b4 b6 → J (nI (k + 1)) wc rt lo hk a1 a2 a3 b4 b5 b6 a7) : wX_fillSpan_68 post J (nI i) (nI j) (nI (6 * i + j)) (nI k) (nI (6 * i + k)) (nI (36 + 6 * (k + 1) + j)) wc rt lo hk a1 a2 a3 a4 a5 a6 a7 := by
  unfold wX_fillSpan_68
  rw [pk_cl (6 * j + i) (sd_i6 j i)]
  refine pk_le i 0 (fun z => nm_r (nI_1 k) (H a4 a5 a6 ?_)) (fun z => ?_)
  · unfold sd_fb
    rw [if_neg (by omega)]
    exact hM
  · have ef : sd_fb i j k T = sd_jn (108 + (6 * i + j)) (6 * i + k) (36 + 6 * (k + 1) + j) [6 * j + i] T := if_pos z
    rw [ef] at hG H
    exact sd_allowed (by omega) (by omega) (fun g => br_f (by decide) ⟨pk_in (6 * j + i) 36 (by omega) (sd_i6 j i), sd_join (c := 108 + (6 * i + j)) (a := 6 * i + k) (b := 36 + 6 * (k + 1) + j) (e := [6 * j + i]) (by omega) (by omega) (by omega) (nI_add 108 _) rfl rfl hS hG (sd_sc1 a1 _) (hS _ (by omega)) (sd_all1 g) hM (fun b4 b5 b6 h => nm_r (nI_1 k) (H b4 b5 b6 h))⟩) (fun g => br_t rfl (nm_r (nI_1 k) (H a4 a5 a6 (sd_M_skip hM (sd_all1 g)))))
theorem sd_l1 {post : St2 → Prop} {wc rt lo hk : Int32} {a1 a2 a3 a7 : Nat → Int32} {i j : Nat} (hij : i < j) (hj : j ≤ 5) (hS : sd_S a1) : ∀ (m k : Nat) (T : sd_T) (a4 a5 a6 : Nat → Int32), i ≤ k → k + m = j → sd_Gd (sd_lp (sd_f3 i j) (j - i) i (sd_lp (sd_f2 i j) (j - i) (i + 1) (sd_lp (sd_f1 i j) m k T))) → sd_M (sd_ok a2 lo a3) a1 T a4 a6 → (∀ b4 b5 b6, sd_M (sd_ok a2 lo a3) a1 (sd_lp (sd_f3 i j) (j - i) i (sd_lp (sd_f2 i j) (j - i) (i + 1) (sd_lp (sd_f1 i j) m k T))) b4 b6 → post (wc, rt, lo, hk, a1, a2, a3, b4, b5, b6, a7)) → wX_fillSpan_10 post (nI i) (nI j) (nI (6 * i + j)) (m + 1) (nI k) wc rt lo hk a1 a2 a3 a4 a5 a6 a7
  | 0, k, T, a4, a5, a6, hk1, hk2, hG, hM, H => pk_le j k (fun _ => nm_r (nI_1 i) ⟨j - i + 1, sd_l2 hij hj hS (j - i) (i + 1) T a4 a5 a6 (Nat.le_refl _) (by omega) hG hM H⟩) (fun z => absurd z (by omega))
  | m + 1, k, T, a4, a5, a6, hk1, hk2, hG, hM, H => by
    have hG1 : sd_Gd (sd_f1 i j k T) := sd_Gd_le (sd_le_t (sd_le_lp (sd_le_f1 i j) m (k + 1) _) (sd_le_t (sd_le_lp (sd_le_f2 i j) (j - i) (i + 1) _) (sd_le_lp (sd_le_f3 i j) (j - i) i _))) hG
    have hG2 : sd_Gd (sd_jn (72 + (6 * i + j)) (6 * i + k) (36 + 6 * (k + 1) + j) [6 * i + j] T) := sd_Gd_le (sd_le_fb i j k _) hG1
    refine pk_le j k (fun z => absurd z (by omega)) (fun _ => nm_r (sd_ix0 i k) (nm_r (sd_ix1 36 k j) (sd_allowed (by omega) (by omega) (fun g => br_f (by decide) ⟨pk_in (6 * i + j) 36 (by omega), ?_⟩) (fun g => br_t rfl ?_))))
    · exact sd_join (c := 72 + (6 * i + j)) (a := 6 * i + k) (b := 36 + 6 * (k + 1) + j) (e := [6 * i + j]) (by omega) (by omega) (by omega) (nI_add 72 _) rfl rfl hS hG2 (by rw [nI_clamp (by omega)]; exact sd_sc1 a1 _) (by rw [nI_clamp (by omega)]; exact hS _ (by omega)) (sd_all1 g) hM (fun b4 b5 b6 h => sd_68 hj hk1 (by omega) hS hG1 h (fun c4 c5 c6 h' => sd_l1 hij hj hS m (k + 1) _ c4 c5 c6 (by omega) (by omega) hG h' H))
    · exact sd_68 hj hk1 (by omega) hS hG1 (sd_M_skip hM (sd_all1 g)) (fun c4 c5 c6 h' => sd_l1 hij hj hS m (k + 1) _ c4 c5 c6 (by omega) (by omega) hG h' H)
theorem sd_span {post : St2 → Prop} {wc rt lo hk pj : Int32} {a1 a2 a3 a4 a5 a6 a7 : Nat → Int32} {T : sd_T} {i j : Nat} (hij : i < j) (hj : j ≤ 5) (hp : pj = nI j) (hS : sd_S a1) (hG : sd_Gd (sd_sp i j T)) (hM : sd_M (sd_ok a2 lo a3) a1 T a4 a6) (H : ∀ b4 b5 b6, sd_M (sd_ok a2 lo a3) a1 (sd_sp i j T) b4 b6 → post (wc, rt, lo, hk, a1, a2, a3, b4, b5, b6, a7)) : wpX_fillSpan post (wc, rt, lo, hk, a1, a2, a3, a4, a5, a6, a7) (nI i) pj := by
  subst hp
  unfold wpX_fillSpan
  exact nm_r (sd_i6 i j) ⟨j - i + 1, sd_l1 hij hj hS (j - i) i T a4 a5 a6 (Nat.le_refl i) (by omega) hG hM H⟩
theorem sd_begin {post : St2 → Prop} {wc rt lo hk pc : Int32} {a1 a2 a3 a4 a5 a6 a7 : Nat → Int32} {ok : Nat → Bool} {T : sd_T} {c : Nat} (hc : c < 145) (hpc : pc = nI c) (hM : sd_M ok a1 T a4 a6) (H : ∀ b4 b5 b6, sd_M ok a1 (sd_up T c [[]]) b4 b6 → post (wc, rt, lo, hk, a1, a2, a3, b4, b5, b6, a7)) : wpX_begin post (wc, rt, lo, hk, a1, a2, a3, a4, a5, a6, a7) pc := by
  subst hpc
  unfold wpX_begin
  rw [nI_clamp (n := c) (by omega)]
  exact ⟨pk_in c 145 hc, nm_e ⟨pk_in c 145 hc, nm_e ⟨pk_in c 145 hc, nm_e (H _ _ _ (sd_M_begin hM))⟩⟩⟩
theorem sd_lg {post : St2 → Prop} {rt lo hk : Int32} {a1 a2 a3 a7 : Nat → Int32} {n : Nat} (hn : n ≤ 5) (hS : sd_S a1) : ∀ (m d : Nat) (T : sd_T) (a4 a5 a6 : Nat → Int32), 1 ≤ d → d + m = n + 1 → sd_Gd (sd_lp (sd_g1 n) m d T) → sd_M (sd_ok a2 lo a3) a1 T a4 a6 → (∀ b4 b5 b6, sd_M (sd_ok a2 lo a3) a1 (sd_lp (sd_g1 n) m d T) b4 b6 → post (nI n, rt, lo, hk, a1, a2, a3, b4, b5, b6, a7)) → wX_fillGoal_25 post (m + 1) (nI d) (nI n) rt lo hk a1 a2 a3 a4 a5 a6 a7
  | 0, d, T, a4, a5, a6, hd1, hd2, hG, hM, H => pk_lt n d (fun _ => H a4 a5 a6 hM) (fun z => absurd z (by omega))
  | m + 1, d, T, a4, a5, a6, hd1, hd2, hG, hM, H => by
    have e0 : 6 * 0 + d = d := by omega
    refine pk_lt n d (fun z => absurd z (by omega)) (fun _ => sd_allowed (h := 0) (by omega) (by omega) (fun g => br_f (by decide) ⟨pk_in d 36 (by omega), ?_⟩) (fun g => br_t rfl (nm_r (nI_1 d) ?_)))
    · rw [e0] at g
      exact sd_join (c := 144) (a := 42 + d) (b := 6 * d + n) (e := [d]) (by omega) (by omega) (by omega) rfl (nI_add 42 d) (sd_ix0 d n) hS (sd_Gd_le (sd_le_lp (sd_le_g1 n) m (d + 1) _) hG) (by rw [nI_clamp (by omega)]; exact sd_sc1 a1 _) (by rw [nI_clamp (by omega)]; exact hS _ (by omega)) (sd_all1 g) hM (fun b4 b5 b6 h => nm_r (nI_1 d) (sd_lg hn hS m (d + 1) _ b4 b5 b6 (by omega) (by omega) hG h H))
    · rw [e0] at g
      exact sd_lg hn hS m (d + 1) _ a4 a5 a6 (by omega) (by omega) hG (sd_M_skip hM (sd_all1 g)) H
theorem sd_goal {post : St2 → Prop} {lo hk : Int32} {a1 a2 a3 a4 a5 a6 a7 : Nat → Int32} {T : sd_T} {n r : Nat} (hn : n ≤ 5) (hr : r ≤ 1) (hS : sd_S a1) (hG : sd_Gd (sd_gl n r T)) (hM : sd_M (sd_ok a2 lo a3) a1 T a4 a6) (H : ∀ b4 b5 b6, sd_M (sd_ok a2 lo a3) a1 (sd_gl n r T) b4 b6 → post (nI n, nI r, lo, hk, a1, a2, a3, b4, b5, b6, a7)) : wpX_fillGoal post (nI n, nI r, lo, hk, a1, a2, a3, a4, a5, a6, a7) := by
  unfold wpX_fillGoal
  refine pk_eq r 0 (fun z => ?_) (fun z => ?_)
  · have eg : sd_gl n r T = sd_jn 144 n 0 [] T := if_pos z
    rw [eg] at hG H
    exact sd_join (c := 144) (a := n) (b := 0) (e := []) (by omega) (by omega) (by omega) rfl (Int32.zero_add _) rfl hS hG (sd_sc0 a1) sd_0b rfl hM (fun b4 b5 b6 h => H b4 b5 b6 h)
  · have eg : sd_gl n r T = sd_lp (sd_g1 n) n 1 T := if_neg z
    rw [eg] at hG H
    exact ⟨n + 1, sd_lg hn hS n 1 T a4 a5 a6 (by omega) (by omega) hG hM H⟩
theorem sd_l71 {post : St2 → Prop} {J : Int32 → Int32 → Int32 → Int32 → Int32 → (Nat → Int32) → (Nat → Int32) → (Nat → Int32) → (Nat → Int32) → (Nat → Int32) → (Nat → Int32) → (Nat → Int32) → Prop} {rt lo hk : Int32} {a1 a2 a3 a7 : Nat → Int32} {n w : Nat} (hn : n ≤ 5) (hw : 1 ≤ w) (hS : sd_S a1) : ∀ (m i : Nat) (T : sd_T) (a4 a5 a6 : Nat → Int32), i + m + w = n + 1 → sd_Gd (sd_lp (fun i T => sd_sp i (i + w) T) m i T) → sd_M (sd_ok a2 lo a3) a1 T a4 a6 → (∀ b4 b5 b6, sd_M (sd_ok a2 lo a3) a1 (sd_lp (fun i T => sd_sp i (i + w) T) m i T) b4 b6 → J (nI (w + 1)) (nI n) rt lo hk a1 a2 a3 b4 b5 b6 a7) → wX_fill_71 post J (nI w) (m + 1) (nI i) (nI n) rt lo hk a1 a2 a3 a4 a5 a6 a7
  | 0, i, T, a4, a5, a6, hi, hG, hM, H => pk_lt n (i + w) (fun _ => nm_r (nI_1 w) (H a4 a5 a6 hM)) (fun z => absurd z (by omega)) rfl (nI_add i w)
  | m + 1, i, T, a4, a5, a6, hi, hG, hM, H => pk_lt n (i + w) (fun z => absurd z (by omega)) (fun _ => sd_span (j := i + w) (by omega) (by omega) (nI_add i w) hS (sd_Gd_le (sd_le_lp (fun i T => sd_le_sp i (i + w) T) m (i + 1) _) hG) hM (fun b4 b5 b6 h => nm_r (nI_1 i) (sd_l71 hn hw hS m (i + 1) _ b4 b5 b6 (by omega) hG h H))) rfl (nI_add i w)
theorem sd_l61 {post : St2 → Prop} {lo hk : Int32} {a1 a2 a3 a7 : Nat → Int32} {n r : Nat} (hn : n ≤ 5) (hr : r ≤ 1) (hS : sd_S a1) : ∀ (m w : Nat) (T : sd_T) (a4 a5 a6 : Nat → Int32), 1 ≤ w → w + m = n + 1 → sd_Gd (sd_gl n r (sd_lp (sd_ws n) m w T)) → sd_M (sd_ok a2 lo a3) a1 T a4 a6 → (∀ b4 b5 b6, sd_M (sd_ok a2 lo a3) a1 (sd_gl n r (sd_lp (sd_ws n) m w T)) b4 b6 → post (nI n, nI r, lo, hk, a1, a2, a3, b4, b5, b6, a7)) → wX_fill_61 post (m + 1) (nI w) (nI n) (nI r) lo hk a1 a2 a3 a4 a5 a6 a7
  | 0, w, T, a4, a5, a6, hw, hi, hG, hM, H => pk_lt n w (fun _ => sd_goal hn hr hS hG hM (fun b4 b5 b6 h => H b4 b5 b6 h)) (fun z => absurd z (by omega))
  | m + 1, w, T, a4, a5, a6, hw, hi, hG, hM, H => pk_lt n w (fun z => absurd z (by omega)) (fun _ => ⟨n + 1 - w + 1, sd_l71 hn hw hS (n + 1 - w) 0 T a4 a5 a6 (by omega) (sd_Gd_le (sd_le_t (sd_le_lp (sd_le_ws n) m (w + 1) _) (sd_le_gl n r _)) hG) hM (fun b4 b5 b6 h => sd_l61 hn hr hS m (w + 1) _ b4 b5 b6 (by omega) (by omega) hG h H)⟩)
theorem sd_l24 {post : St2 → Prop} {lo hk : Int32} {a1 a2 a3 a7 : Nat → Int32} {n r : Nat} (hn : n ≤ 5) (hr : r ≤ 1) (hS : sd_S a1) : ∀ (m i : Nat) (T : sd_T) (a4 a5 a6 : Nat → Int32), i + m = n + 1 → sd_Gd (sd_gl n r (sd_lp (sd_ws n) n 1 (sd_lp sd_bg m i T))) → sd_M (sd_ok a2 lo a3) a1 T a4 a6 → (∀ b4 b5 b6, sd_M (sd_ok a2 lo a3) a1 (sd_gl n r (sd_lp (sd_ws n) n 1 (sd_lp sd_bg m i T))) b4 b6 → post (nI n, nI r, lo, hk, a1, a2, a3, b4, b5, b6, a7)) → wX_fill_24 post (m + 1) (nI i) (nI n) (nI r) lo hk a1 a2 a3 a4 a5 a6 a7
  | 0, i, T, a4, a5, a6, hi, hG, hM, H => pk_lt n i (fun _ => ⟨n + 1, sd_l61 hn hr hS n 1 T a4 a5 a6 (by omega) (by omega) hG hM H⟩) (fun z => absurd z (by omega))
  | m + 1, i, T, a4, a5, a6, hi, hG, hM, H => pk_lt n i (fun z => absurd z (by omega)) (fun _ => sd_begin (c := 7 * i) (by omega) (by rw [Int32.zero_add]; exact pk_mul 7 i) hM (fun b4 b5 b6 h => sd_begin (c := 36 + 7 * i) (by omega) ((congrArg (fun z => (36 : Int32) + z) (pk_mul 7 i)).trans (nI_add 36 (7 * i))) h (fun c4 c5 c6 h' => nm_r (nI_1 i) (sd_l24 hn hr hS m (i + 1) _ c4 c5 c6 (by omega) hG h' H))))
theorem sd_lz {post : St2 → Prop} {lo hk : Int32} {a1 a2 a3 a4 a5 a7 : Nat → Int32} {n r : Nat} (hn1 : 1 ≤ n) (hn : n ≤ 5) (hr : r ≤ 1) (hS : sd_S a1) (H : ∀ b4 b5 b6, sd_M (sd_ok a2 lo a3) a1 (sd_ft n r) b4 b6 → post (nI n, nI r, lo, hk, a1, a2, a3, b4, b5, b6, a7)) : ∀ (m i : Nat) (a6 : Nat → Int32), i + m = 145 → (∀ j, j < i → a6 j = 0) → wX_fill_2 post (nI n) (nI r) lo hk (m + 1) (nI i) a1 a2 a3 a4 a5 a6 a7
  | 0, i, a6, hi, h0 => pk_le 145 i (fun _ => ⟨n + 2, sd_l24 hn hr hS (n + 1) 0 (fun _ => []) a4 a5 a6 (by omega) (sd_gd hn1 hn hr) (sd_M_zero (fun j hj => h0 j (by omega))) H⟩) (fun z => absurd z (by omega))
  | m + 1, i, a6, hi, h0 => pk_le 145 i (fun z => absurd z (by omega)) (fun _ => ⟨pk_in i 145 (by omega), nm_e (nm_r (nI_1 i) (sd_lz hn1 hn hr hS H m (i + 1) _ (by omega) (fun j hj => by
      rw [nI_clamp (by omega)]
      by_cases e : j = i
      · rw [e, pk_us]
      · rw [pk_un e]
        exact h0 j (by omega))))⟩)
theorem sd_fill {post : St2 → Prop} {lo hk : Int32} {a1 a2 a3 a4 a5 a6 a7 : Nat → Int32} {n r : Nat} (hn1 : 1 ≤ n) (hn : n ≤ 5) (hr : r ≤ 1) (hS : sd_S a1) (H : ∀ b4 b5 b6, sd_M (sd_ok a2 lo a3) a1 (sd_ft n r) b4 b6 → post (nI n, nI r, lo, hk, a1, a2, a3, b4, b5, b6, a7)) : wpX_fill post (nI n, nI r, lo, hk, a1, a2, a3, a4, a5, a6, a7) := by
  unfold wpX_fill
  exact ⟨146, sd_lz hn1 hn hr hS H 145 0 a6 rfl (fun j hj => absurd hj (by omega))⟩
end
section
/-! the questions: lift, fill, read off -/
def sd_o (a2 : Nat → Int32) (e : Nat) : Bool := decide (a2 e = 0)
/-- the trees that the bans leave; those with head h at d; those with another -/
def sd_F0 (n r : Nat) (a2 : Nat → Int32) : List (List Nat) := (sd_ft n r 144).filter (fun x => x.all (sd_o a2))
def sd_W (n r : Nat) (a2 : Nat → Int32) (d h : Nat) : List (List Nat) := (sd_ft n r 144).filter (fun x => x.all (sd_o a2) && decide (sd_hd x d = h))
def sd_N (n r : Nat) (a2 : Nat → Int32) (d h : Nat) : List (List Nat) := (sd_ft n r 144).filter (fun x => x.all (sd_o a2) && decide (sd_hd x d ≠ h))
theorem sd_all {n : Nat} {x : List Nat} (hx : sd_Dx n x) (hn : n ≤ 5) (a2 : Nat → Int32) (lo : Int32) (a3 : Nat → Int32) : x.all (sd_ok a2 lo a3) = true ↔ x.all (sd_o a2) = true ∧ (∀ e, e ∈ x → ¬ nI e = lo) ∧ ∀ d, 1 ≤ d → d ≤ n → (a3 d < 0 ∨ a3 d = nI (sd_hd x d)) := by
  rw [List.all_eq_true, List.all_eq_true]
  constructor
  · intro h
    refine ⟨fun e he => decide_eq_true (of_decide_eq_true (h e he)).1, fun e he => (of_decide_eq_true (h e he)).2.1, fun d h1 h2 => ?_⟩
    have q := (of_decide_eq_true (h _ (hx.2.2 d h1 h2).2.2.1)).2.2
    rw [show (6 * sd_hd x d + d) % 6 = d by omega, show (6 * sd_hd x d + d) / 6 = sd_hd x d by omega] at q
    exact q
  · rintro ⟨h1, h2, h3⟩ e he
    have hb := hx.2.1 e he
    have q := (hx.2.2 (e % 6) hb.2.1 hb.2.2).2.2.2 e he rfl
    have q2 : e / 6 = sd_hd x (e % 6) := by omega
    refine decide_eq_true ⟨of_decide_eq_true (h1 e he), h2 e he, ?_⟩
    rw [q2]
    exact h3 (e % 6) hb.2.1 hb.2.2
theorem sd_em1 : ∀ e, e < 36 → ¬ nI e = -1 := by decide
theorem sd_b8 : ∀ h, h < 6 → (nI h).toInt8.toInt32 = nI h := by decide
theorem sd_m1 : (-1 : Int32) < 0 := by decide
theorem sd_beq {p q : Bool} (h : p = true ↔ q = true) : p = q := Bool.eq_iff_iff.mpr h
theorem sd_F_0 {n r : Nat} (hn1 : 1 ≤ n) (hn : n ≤ 5) (hr : r ≤ 1) {a2 a3 : Nat → Int32} (h3 : ∀ j, j < 6 → a3 j = -1) : sd_F (sd_ok a2 (-1) a3) (sd_ft n r 144) = sd_F0 n r a2 := by
  refine List.filter_congr (fun x hx => sd_beq ?_)
  have dx := sd_dx hn1 hn hr hx
  rw [sd_all dx hn]
  exact ⟨fun z => z.1, fun z => ⟨z, fun e he => sd_em1 e (dx.2.1 e he).1, fun d h1 h2 => Or.inl (by rw [h3 d (by omega)]; exact sd_m1)⟩⟩
theorem sd_F_w {n r d h : Nat} (hn1 : 1 ≤ n) (hn : n ≤ 5) (hr : r ≤ 1) (hd1 : 1 ≤ d) (hd : d ≤ n) (hh : h ≤ n) {a2 a3 : Nat → Int32} (h3 : ∀ j, j < 6 → a3 j = -1) : sd_F (sd_ok a2 (-1) (upd a3 d (nI h))) (sd_ft n r 144) = sd_W n r a2 d h := by
  refine List.filter_congr (fun x hx => sd_beq ?_)
  have dx := sd_dx hn1 hn hr hx
  have hb := (dx.2.2 d hd1 hd).1
  rw [sd_all dx hn, Bool.and_eq_true, decide_eq_true_iff]
  constructor
  · intro z
    refine ⟨z.1, ?_⟩
    have q := z.2.2 d hd1 hd
    rw [pk_us] at q
    rcases q with q | q
    · exact absurd q (nI_pos (by omega))
    · exact ((nI_eq (by omega) (by omega)).mp q).symm
  · intro z
    refine ⟨z.1, fun e he => sd_em1 e (dx.2.1 e he).1, fun j h1 h2 => ?_⟩
    by_cases e : j = d
    · rw [e, pk_us, z.2]
      exact Or.inr rfl
    · rw [pk_un e, h3 j (by omega)]
      exact Or.inl sd_m1
theorem sd_F_n {n r d h : Nat} (hn1 : 1 ≤ n) (hn : n ≤ 5) (hr : r ≤ 1) (hd1 : 1 ≤ d) (hd : d ≤ n) (hh : h ≤ n) {a2 a3 : Nat → Int32} (h3 : ∀ j, j < 6 → a3 j = -1) : sd_F (sd_ok a2 (nI (6 * h + d)) a3) (sd_ft n r 144) = sd_N n r a2 d h := by
  refine List.filter_congr (fun x hx => sd_beq ?_)
  have dx := sd_dx hn1 hn hr hx
  have hb := dx.2.2 d hd1 hd
  rw [sd_all dx hn, Bool.and_eq_true, decide_eq_true_iff]
  constructor
  · intro z
    refine ⟨z.1, fun q => ?_⟩
    rw [q] at hb
    exact z.2.1 _ hb.2.2.1 rfl
  · intro z
    refine ⟨z.1, fun e he q => ?_, fun j h1 h2 => Or.inl (by rw [h3 j (by omega)]; exact sd_m1)⟩
    have q1 := (nI_eq (Nat.lt_trans (dx.2.1 e he).1 (by decide)) (by omega)).mp q
    have q2 := hb.2.2.2 e he (by omega)
    exact z.2 (by omega)
theorem sd_D_len {n r : Nat} (hn1 : 1 ≤ n) (hn : n ≤ 5) (hr : r ≤ 1) (p : List Nat → Bool) : ((sd_ft n r 144).filter p).length ≤ 1000000 := Nat.le_trans (List.length_filter_le ..) (sd_gd hn1 hn hr 144 (by decide)).1
theorem sd_F0_mem {n r : Nat} {a2 : Nat → Int32} {x : List Nat} : x ∈ sd_F0 n r a2 ↔ x ∈ sd_ft n r 144 ∧ x.all (sd_o a2) = true := List.mem_filter
theorem sd_W_mem {n r d h : Nat} {a2 : Nat → Int32} {x : List Nat} : x ∈ sd_W n r a2 d h ↔ x ∈ sd_F0 n r a2 ∧ sd_hd x d = h := by
  unfold sd_W sd_F0
  rw [List.mem_filter, List.mem_filter, Bool.and_eq_true, decide_eq_true_iff, and_assoc]
theorem sd_N_mem {n r d h : Nat} {a2 : Nat → Int32} {x : List Nat} : x ∈ sd_N n r a2 d h ↔ x ∈ sd_F0 n r a2 ∧ sd_hd x d ≠ h := by
  unfold sd_N sd_F0
  rw [List.mem_filter, List.mem_filter, Bool.and_eq_true, decide_eq_true_iff, and_assoc]
/-- what bestScore answers over the trees F -/
def sd_B (a1 : Nat → Int32) (F : List (List Nat)) (v : Int32) : Prop := (F = [] ∧ v = -1000000) ∨ (F ≠ [] ∧ sd_mx a1 F v)
theorem sd_bs {post : Int32 → Prop} {wc rt lo hk : Int32} {a1 a2 a3 a4 a5 a6 a7 : Nat → Int32} {ok : Nat → Bool} {n r : Nat} {F : List (List Nat)} (hn1 : 1 ≤ n) (hn : n ≤ 5) (hr : r ≤ 1) (hM : sd_M ok a1 (sd_ft n r) a4 a6) (hF : sd_F ok (sd_ft n r 144) = F) (H : ∀ v, sd_B a1 F v → post v) : wpX_bestScore post (wc, rt, lo, hk, a1, a2, a3, a4, a5, a6, a7) := by
  subst hF
  have h := hM 144 (by decide)
  have hZ : a6 144 = 0 ↔ sd_F ok (sd_ft n r 144) = [] := by rw [h.1]; exact sd_nil0 (sd_D_len hn1 hn hr _)
  unfold wpX_bestScore
  exact br_c (fun g => H _ (Or.inl ⟨hZ.mp g, rfl⟩)) (fun g => H _ (Or.inr ⟨fun z => g (hZ.mpr z), h.2 (fun z => g (hZ.mpr z))⟩))
theorem sd_ll {post : St2 → Prop} {wc rt lo hk : Int32} {a1 a2 a4 a5 a6 a7 : Nat → Int32} (H : ∀ b3, (∀ j, j < 6 → b3 j = -1) → post (wc, rt, -1, hk, a1, a2, b3, a4, a5, a6, a7)) : ∀ (m i : Nat) (a3 : Nat → Int32), i + m = 6 → (∀ j, j < i → a3 j = -1) → wX_lift_2 post wc rt lo hk (m + 1) (nI i) a1 a2 a3 a4 a5 a6 a7
  | 0, i, a3, hi, h0 => pk_le 6 i (fun _ => H a3 (fun j hj => h0 j (by omega))) (fun z => absurd z (by omega))
  | m + 1, i, a3, hi, h0 => pk_le 6 i (fun z => absurd z (by omega)) (fun _ => ⟨pk_in i 6 (by omega), nm_e (nm_r (nI_1 i) (sd_ll H m (i + 1) _ (by omega) (fun j hj => by
      rw [nI_clamp (by omega)]
      by_cases e : j = i
      · rw [e, pk_us]
      · rw [pk_un e]
        exact h0 j (by omega))))⟩)
theorem sd_lift {post : St2 → Prop} {wc rt lo hk : Int32} {a1 a2 a3 a4 a5 a6 a7 : Nat → Int32} (H : ∀ b3, (∀ j, j < 6 → b3 j = -1) → post (wc, rt, -1, hk, a1, a2, b3, a4, a5, a6, a7)) : wpX_lift post (wc, rt, lo, hk, a1, a2, a3, a4, a5, a6, a7) := by
  unfold wpX_lift
  exact ⟨7, sd_ll H 6 0 a3 rfl (fun j hj => absurd hj (by omega))⟩
theorem sd_best {post : Int32 → St2 → Prop} {lo hk : Int32} {a1 a2 a3 a4 a5 a6 a7 : Nat → Int32} {n r : Nat} (hn1 : 1 ≤ n) (hn : n ≤ 5) (hr : r ≤ 1) (hS : sd_S a1) (H : ∀ v lo' b3 b4 b5 b6, sd_B a1 (sd_F0 n r a2) v → post v (nI n, nI r, lo', hk, a1, a2, b3, b4, b5, b6, a7)) : wpX_best post (nI n, nI r, lo, hk, a1, a2, a3, a4, a5, a6, a7) := by
  unfold wpX_best
  exact sd_lift (fun b3 h3 => sd_fill hn1 hn hr hS (fun b4 b5 b6 hM => sd_bs hn1 hn hr hM (sd_F_0 hn1 hn hr h3) (fun v hv => H v _ b3 b4 b5 b6 hv)))
theorem sd_trees {post : Int32 → St2 → Prop} {lo hk : Int32} {a1 a2 a3 a4 a5 a6 a7 : Nat → Int32} {n r : Nat} (hn1 : 1 ≤ n) (hn : n ≤ 5) (hr : r ≤ 1) (hS : sd_S a1) (H : ∀ lo' b3 b4 b5 b6, post (nI (sd_F0 n r a2).length) (nI n, nI r, lo', hk, a1, a2, b3, b4, b5, b6, a7)) : wpX_trees post (nI n, nI r, lo, hk, a1, a2, a3, a4, a5, a6, a7) := by
  unfold wpX_trees
  refine sd_lift (fun b3 h3 => sd_fill hn1 hn hr hS (fun b4 b5 b6 hM => ?_))
  have h := (hM 144 (by decide)).1
  rw [sd_F_0 hn1 hn hr h3] at h
  show post (b6 144) _
  rw [h]
  exact H _ b3 b4 b5 b6
theorem sd_isArc {post : Int32 → Prop} {rt lo hk : Int32} {a1 a2 a3 a4 a5 a6 a7 : Nat → Int32} {n h d : Nat} (hn : n ≤ 5) (hh : h ≤ n) (hd1 : 1 ≤ d) (hd : d ≤ n) (H1 : h ≠ d → post 1) (H0 : h = d → post 0) : wpX_isArc post (nI n, rt, lo, hk, a1, a2, a3, a4, a5, a6, a7) (nI h) (nI d) := by
  unfold wpX_isArc
  exact pk_lt h 0 (fun z => absurd z (by omega)) (fun _ => pk_lt n h (fun z => absurd z (by omega)) (fun _ => pk_lt d 1 (fun z => absurd z (by omega)) (fun _ => pk_lt n d (fun z => absurd z (by omega)) (fun _ => pk_eq h d H0 H1))))
theorem sd_up8 {b3 : Nat → Int32} {d h : Nat} (hd : d ≤ 5) (hh : h ≤ 5) : upd b3 (nI d).toNatClampNeg (nI h).toInt8.toInt32 = upd b3 d (nI h) := by
  rw [nI_clamp (by omega), sd_b8 h (by omega)]
theorem sd_bestWith {post : Int32 → St2 → Prop} {lo hk : Int32} {a1 a2 a3 a4 a5 a6 a7 : Nat → Int32} {n r d h : Nat} (hn1 : 1 ≤ n) (hn : n ≤ 5) (hr : r ≤ 1) (hS : sd_S a1) (hd1 : 1 ≤ d) (hd : d ≤ n) (hh : h ≤ n) (hhd : h ≠ d) (H : ∀ v lo' b3 b4 b5 b6, sd_B a1 (sd_W n r a2 d h) v → post v (nI n, nI r, lo', hk, a1, a2, b3, b4, b5, b6, a7)) : wpX_bestWith post (nI n, nI r, lo, hk, a1, a2, a3, a4, a5, a6, a7) (nI h) (nI d) := by
  unfold wpX_bestWith
  exact sd_isArc hn hh hd1 hd (fun _ => br_f (by decide) (sd_lift (fun b3 h3 => ⟨pk_in d 6 (by omega), nm_r (sd_up8 (by omega) (by omega)) (sd_fill hn1 hn hr hS (fun b4 b5 b6 hM => sd_bs hn1 hn hr hM (sd_F_w hn1 hn hr hd1 hd hh h3) (fun v hv => H v _ _ b4 b5 b6 hv)))⟩))) (fun z => absurd z hhd)
theorem sd_treesWith {post : Int32 → St2 → Prop} {lo hk : Int32} {a1 a2 a3 a4 a5 a6 a7 : Nat → Int32} {n r d h : Nat} (hn1 : 1 ≤ n) (hn : n ≤ 5) (hr : r ≤ 1) (hS : sd_S a1) (hd1 : 1 ≤ d) (hd : d ≤ n) (hh : h ≤ n) (hhd : h ≠ d) (H : ∀ lo' b3 b4 b5 b6, post (nI (sd_W n r a2 d h).length) (nI n, nI r, lo', hk, a1, a2, b3, b4, b5, b6, a7)) : wpX_treesWith post (nI n, nI r, lo, hk, a1, a2, a3, a4, a5, a6, a7) (nI h) (nI d) := by
  unfold wpX_treesWith
  refine sd_isArc hn hh hd1 hd (fun _ => br_f (by decide) (sd_lift (fun b3 h3 => ⟨pk_in d 6 (by omega), nm_r (sd_up8 (by omega) (by omega)) (sd_fill hn1 hn hr hS (fun b4 b5 b6 hM => ?_))⟩))) (fun z => absurd z hhd)
  have g := (hM 144 (by decide)).1
  rw [sd_F_w hn1 hn hr hd1 hd hh h3] at g
  show post (b6 144) _
  rw [g]
  exact H _ _ b4 b5 b6
theorem sd_bestWithout {post : Int32 → St2 → Prop} {lo hk : Int32} {a1 a2 a3 a4 a5 a6 a7 : Nat → Int32} {n r d h : Nat} (hn1 : 1 ≤ n) (hn : n ≤ 5) (hr : r ≤ 1) (hS : sd_S a1) (hd1 : 1 ≤ d) (hd : d ≤ n) (hh : h ≤ n) (hhd : h ≠ d) (H : ∀ v lo' b3 b4 b5 b6, sd_B a1 (sd_N n r a2 d h) v → post v (nI n, nI r, lo', hk, a1, a2, b3, b4, b5, b6, a7)) : wpX_bestWithout post (nI n, nI r, lo, hk, a1, a2, a3, a4, a5, a6, a7) (nI h) (nI d) := by
  unfold wpX_bestWithout
  exact sd_isArc hn hh hd1 hd (fun _ => br_f (by decide) (sd_lift (fun b3 h3 => nm_r (sd_i6 h d) (sd_fill hn1 hn hr hS (fun b4 b5 b6 hM => sd_bs hn1 hn hr hM (sd_F_n hn1 hn hr hd1 hd hh h3) (fun v hv => H v _ b3 b4 b5 b6 hv)))))) (fun z => absurd z hhd)
end
section
/-! the first best tree -/
def sd_HK (n r : Nat) (a1 a2 a7 : Nat → Int32) : Prop := ∀ g, sd_mx a1 (sd_F0 n r a2) g → ∀ d, 1 ≤ d → d ≤ n → ∃ x, x ∈ sd_F0 n r a2 ∧ sd_sc a1 x = g.toInt ∧ a7 d = nI (sd_hd x d)
theorem sd_mx_u {a1 : Nat → Int32} {F : List (List Nat)} {g k : Int32} (h1 : sd_mx a1 F g) (h2 : sd_mx a1 F k) : g = k := by
  obtain ⟨x, hx, ex⟩ := h1.2
  obtain ⟨y, hy, ey⟩ := h2.2
  have q1 := h1.1 y hy
  have q2 := h2.1 x hx
  exact Int32.toInt_inj.mp (by omega)
theorem sd_mx_F0 {n r : Nat} {a1 a2 : Nat → Int32} {g : Int32} (hn1 : 1 ≤ n) (hn : n ≤ 5) (hr : r ≤ 1) (hS : sd_S a1) (h : sd_mx a1 (sd_F0 n r a2) g) : -5000 ≤ g.toInt ∧ g.toInt ≤ 5000 := sd_mx_b hS h (fun x hx => (sd_gd hn1 hn hr 144 (by decide)).2 x (sd_F0_mem.mp hx).1)
theorem sd_none : (-1000000 : Int32).toInt = -1000000 := by decide
theorem sd_h118 {post : St2 → Prop} {J : Int32 → Int32 → Int32 → Int32 → Int32 → (Nat → Int32) → (Nat → Int32) → (Nat → Int32) → (Nat → Int32) → (Nat → Int32) → (Nat → Int32) → (Nat → Int32) → Prop} {g wc rt lo hk : Int32} {a1 a2 a3 a4 a5 a6 a7 : Nat → Int32} {d h : Nat} (hd : d ≤ 5) (hh : h ≤ 5) (h3 : a3 d = nI h) (H : J (nI (d + 1)) wc rt lo hk a1 a2 a3 a4 a5 a6 (upd a7 d (nI h))) : wX_findHeads_118 post J g (nI d) wc rt lo hk a1 a2 a3 a4 a5 a6 a7 := by
  unfold wX_findHeads_118
  exact ⟨pk_in d 6 (by omega), pk_in d 6 (by omega), nm_r (by rw [nI_clamp (by omega), h3, vp_nar_byte, sd_b8 h (by omega)]) (nm_r (nI_1 d) H)⟩
/-- one word's head is sought -/
theorem sd_h63 {post : St2 → Prop} {J : Int32 → Int32 → Int32 → Int32 → Int32 → (Nat → Int32) → (Nat → Int32) → (Nat → Int32) → (Nat → Int32) → (Nat → Int32) → (Nat → Int32) → (Nat → Int32) → Prop} {g hk : Int32} {a1 a2 a7 : Nat → Int32} {n r d : Nat} (hn1 : 1 ≤ n) (hn : n ≤ 5) (hr : r ≤ 1) (hS : sd_S a1) (hg : sd_mx a1 (sd_F0 n r a2) g) (hd1 : 1 ≤ d) (hd : d ≤ n)
    (H : ∀ x b3 b4 b5 b6, x ∈ sd_F0 n r a2 → sd_sc a1 x = g.toInt → (∀ j, 1 ≤ j → j < d + 1 → b3 j = nI (sd_hd x j)) → (∀ j, d < j → j < 6 → b3 j = -1) → (∀ j, 1 ≤ j → j < d → a7 j = nI (sd_hd x j)) → J (nI (d + 1)) (nI n) (nI r) (-1) hk a1 a2 b3 b4 b5 b6 (upd a7 d (nI (sd_hd x d)))) :
    ∀ (m h : Nat) (x3 : Int32) (a3 a4 a5 a6 : Nat → Int32), h + m = n + 1 → (∀ j, d < j → j < 6 → a3 j = -1) → (∃ x, x ∈ sd_F0 n r a2 ∧ sd_sc a1 x = g.toInt ∧ (∀ j, 1 ≤ j → j < d → a3 j = nI (sd_hd x j) ∧ a7 j = nI (sd_hd x j)) ∧ ((x3 = 0 ∧ h ≤ sd_hd x d) ∨ (x3 = 1 ∧ a3 d = nI (sd_hd x d)))) → wX_findHeads_63 post J g (nI d) (m + 1) x3 (nI h) (nI n) (nI r) (-1) hk a1 a2 a3 a4 a5 a6 a7 := by
  have hdx : ∀ x, x ∈ sd_F0 n r a2 → sd_Dx n x := fun x hx => sd_dx hn1 hn hr (sd_F0_mem.mp hx).1
  have fin : ∀ (x : List Nat) (a3 a4 a5 a6 : Nat → Int32), x ∈ sd_F0 n r a2 → sd_sc a1 x = g.toInt → (∀ j, 1 ≤ j → j < d → a3 j = nI (sd_hd x j) ∧ a7 j = nI (sd_hd x j)) → (∀ j, d < j → j < 6 → a3 j = -1) → a3 d = nI (sd_hd x d) → wX_findHeads_118 post J g (nI d) (nI n) (nI r) (-1) hk a1 a2 a3 a4 a5 a6 a7 := by
    intro x a3 a4 a5 a6 hx hs hp hz h3
    have hb := ((hdx x hx).2.2 d hd1 hd).1
    refine sd_h118 (by omega) (by omega) h3 (H x a3 a4 a5 a6 hx hs (fun j h1 h2 => ?_) hz (fun j h1 h2 => (hp j h1 h2).2))
    by_cases e : j = d
    · rw [e, h3]
    · exact (hp j h1 (by omega)).1
  intro m
  induction m with
  | zero =>
    intro h x3 a3 a4 a5 a6 hm hz ⟨x, hx, hs, hp, hc⟩
    have hb := ((hdx x hx).2.2 d hd1 hd).1
    refine pk_lt n h (fun _ => ?_) (fun z => absurd z (by omega))
    rcases hc with hc | hc
    · exact absurd hc.2 (by omega)
    · exact fin x a3 a4 a5 a6 hx hs hp hz hc.2
  | succ m ih =>
    intro h x3 a3 a4 a5 a6 hm hz ⟨x, hx, hs, hp, hc⟩
    have hb := (hdx x hx).2.2 d hd1 hd
    refine pk_lt n h (fun z => absurd z (by omega)) (fun _ => ?_)
    rcases hc with ⟨rfl, hc⟩ | ⟨rfl, hc⟩
    · refine br_t rfl (pk_eq h d (fun e => nm_r (nI_1 h) ?_) (fun e => ⟨pk_in d 6 (by omega), nm_r (sd_up8 (by omega) (by omega)) ?_⟩))
      · exact ih (h + 1) 0 a3 a4 a5 a6 (by omega) hz ⟨x, hx, hs, hp, Or.inl ⟨rfl, by omega⟩⟩
      · have hz' : ∀ j, d < j → j < 6 → upd a3 d (nI h) j = -1 := fun j h1 h2 => by rw [pk_un (by omega)]; exact hz j h1 h2
        refine sd_fill hn1 hn hr hS (fun b4 b5 b6 hM => sd_bs hn1 hn hr hM rfl (fun v hv => br_c (fun ev => nm_r (nI_1 h) ?_) (fun ev => nm_r (nI_1 h) ?_)))
        · rw [ev] at hv
          rcases hv with hv | hv
          · have q := (sd_mx_F0 hn1 hn hr hS hg).1
            rw [hv.2, sd_none] at q
            exact absurd q (by decide)
          · obtain ⟨y, hy, hys⟩ := hv.2.2
            have hyD := (sd_F_mem.mp hy).1
            have hya := (sd_all (sd_dx hn1 hn hr hyD) hn a2 (-1) (upd a3 d (nI h))).mp (sd_F_mem.mp hy).2
            have hy0 : y ∈ sd_F0 n r a2 := sd_F0_mem.mpr ⟨hyD, hya.1⟩
            refine ih (h + 1) 1 (upd a3 d (nI h)) b4 b5 b6 (by omega) hz' ⟨y, hy0, hys, fun j h1 h2 => ?_, Or.inr ⟨rfl, ?_⟩⟩
            · have q := hya.2.2 j h1 (by omega)
              rw [pk_un (by omega), (hp j h1 h2).1] at q
              have hxj := ((hdx x hx).2.2 j h1 (by omega)).1
              rcases q with q | q
              · exact absurd q (nI_pos (by omega))
              · rw [pk_un (by omega), (hp j h1 h2).1, (hp j h1 h2).2, q]
                exact ⟨rfl, rfl⟩
            · have q := hya.2.2 d hd1 hd
              rcases q with q | q
              · rw [pk_us] at q
                exact absurd q (nI_pos (by omega))
              · exact q
        · refine ih (h + 1) 0 (upd a3 d (nI h)) b4 b5 b6 (by omega) hz' ⟨x, hx, hs, fun j h1 h2 => ?_, Or.inl ⟨rfl, ?_⟩⟩
          · rw [pk_un (by omega)]
            exact hp j h1 h2
          · rcases Nat.lt_or_ge h (sd_hd x d) with q | q
            · exact q
            · have eh : h = sd_hd x d := by omega
              have hxF : x ∈ sd_F (sd_ok a2 (-1) (upd a3 d (nI h))) (sd_ft n r 144) := by
                refine sd_F_mem.mpr ⟨(sd_F0_mem.mp hx).1, (sd_all (hdx x hx) hn a2 (-1) (upd a3 d (nI h))).mpr ⟨(sd_F0_mem.mp hx).2, fun e he => sd_em1 e ((hdx x hx).2.1 e he).1, fun j h1 h2 => ?_⟩⟩
                rcases (show j = d ∨ j < d ∨ d < j by omega) with z | z | z
                · rw [z, pk_us, eh]
                  exact Or.inr rfl
                · rw [pk_un (by omega)]
                  exact Or.inr (hp j h1 z).1
                · rw [hz' j z (by omega)]
                  exact Or.inl sd_m1
              rcases hv with hv | hv
              · rw [hv.1] at hxF
                exact absurd hxF List.not_mem_nil
              · have q1 := hv.2.1 x hxF
                obtain ⟨y, hy, hys⟩ := hv.2.2
                have hya := (sd_all (sd_dx hn1 hn hr (sd_F_mem.mp hy).1) hn a2 (-1) (upd a3 d (nI h))).mp (sd_F_mem.mp hy).2
                have q2 := hg.1 y (sd_F0_mem.mpr ⟨(sd_F_mem.mp hy).1, hya.1⟩)
                exact absurd (Int32.toInt_inj.mp (by omega)) ev
    · exact br_f (by decide) (fin x a3 a4 a5 a6 hx hs hp hz hc)
theorem sd_h50 {post : St2 → Prop} {g hk : Int32} {a1 a2 : Nat → Int32} {n r : Nat} (hn1 : 1 ≤ n) (hn : n ≤ 5) (hr : r ≤ 1) (hS : sd_S a1) (hg : sd_mx a1 (sd_F0 n r a2) g) (H : ∀ b3 b4 b5 b6 b7, sd_HK n r a1 a2 b7 → post (nI n, nI r, -1, hk, a1, a2, b3, b4, b5, b6, b7)) : ∀ (m d : Nat) (a3 a4 a5 a6 a7 : Nat → Int32), 1 ≤ d → d + m = n + 1 → (∀ j, d ≤ j → j < 6 → a3 j = -1) → (∃ x, x ∈ sd_F0 n r a2 ∧ sd_sc a1 x = g.toInt ∧ ∀ j, 1 ≤ j → j < d → a3 j = nI (sd_hd x j) ∧ a7 j = nI (sd_hd x j)) → wX_findHeads_50 post g (m + 1) (nI d) (nI n) (nI r) (-1) hk a1 a2 a3 a4 a5 a6 a7
  | 0, d, a3, a4, a5, a6, a7, hd1, hm, hz, ⟨x, hx, hs, hp⟩ => pk_lt n d (fun _ => H a3 a4 a5 a6 a7 (fun k hk' j h1 h2 => ⟨x, hx, by rw [hs, sd_mx_u hg hk'], (hp j h1 (by omega)).2⟩)) (fun z => absurd z (by omega))
  | m + 1, d, a3, a4, a5, a6, a7, hd1, hm, hz, ⟨x, hx, hs, hp⟩ => pk_lt n d (fun z => absurd z (by omega)) (fun _ => ⟨n + 2, sd_h63 hn1 hn hr hS hg hd1 (by omega) (fun y b3 b4 b5 b6 hy hys h1 h2 h3 => sd_h50 hn1 hn hr hS hg H m (d + 1) b3 b4 b5 b6 _ (by omega) (by omega) (fun j j1 j2 => h2 j (by omega) j2) ⟨y, hy, hys, fun j j1 j2 => ⟨h1 j j1 j2, by
      by_cases e : j = d
      · rw [e, pk_us]
      · rw [pk_un e]
        exact h3 j j1 (by omega)⟩⟩) (n + 1) 0 0 a3 a4 a5 a6 (by omega) (fun j j1 j2 => hz j (by omega) j2) ⟨x, hx, hs, hp, Or.inl ⟨rfl, Nat.zero_le _⟩⟩⟩)
theorem sd_h20 {post : St2 → Prop} {g hk : Int32} {a1 a2 a3 a4 a5 a6 : Nat → Int32} {n r : Nat} (hn1 : 1 ≤ n) (hn : n ≤ 5) (hr : r ≤ 1) (hS : sd_S a1) (hg : sd_B a1 (sd_F0 n r a2) g) (h3 : ∀ j, j < 6 → a3 j = -1) (H : ∀ b3 b4 b5 b6 b7, sd_HK n r a1 a2 b7 → post (nI n, nI r, -1, hk, a1, a2, b3, b4, b5, b6, b7)) : ∀ (m d : Nat) (a7 : Nat → Int32), 1 ≤ d → d + m = n + 1 → wX_findHeads_20 post g (nI n) (nI r) (-1) hk (m + 1) (nI d) a1 a2 a3 a4 a5 a6 a7
  | 0, d, a7, hd1, hm => by
    refine pk_lt n d (fun _ => br_c (fun z => H a3 a4 a5 a6 a7 (fun k hk' => ?_)) (fun z => ?_)) (fun z => absurd z (by omega))
    · rcases hg with hg | hg
      · obtain ⟨x, hx, _⟩ := hk'.2
        rw [hg.1] at hx
        exact absurd hx List.not_mem_nil
      · have q := (sd_mx_F0 hn1 hn hr hS hg.2).1
        rw [z, sd_none] at q
        exact absurd q (by decide)
    · rcases hg with hg | hg
      · exact absurd hg.2 z
      · obtain ⟨x, hx, hs⟩ := hg.2.2
        exact ⟨n + 1, sd_h50 hn1 hn hr hS hg.2 H n 1 a3 a4 a5 a6 a7 (by omega) (by omega) (fun j _ h2 => h3 j h2) ⟨x, hx, hs, fun j j1 j2 => absurd j1 (by omega)⟩⟩
  | m + 1, d, a7, hd1, hm => pk_lt n d (fun z => absurd z (by omega)) (fun _ => ⟨pk_in d 6 (by omega), nm_e (nm_r (nI_1 d) (sd_h20 hn1 hn hr hS hg h3 H m (d + 1) _ (by omega) (by omega)))⟩)
theorem sd_findHeads {post : St2 → Prop} {lo hk : Int32} {a1 a2 a3 a4 a5 a6 a7 : Nat → Int32} {n r : Nat} (hn1 : 1 ≤ n) (hn : n ≤ 5) (hr : r ≤ 1) (hS : sd_S a1) (H : ∀ lo' b3 b4 b5 b6 b7, sd_HK n r a1 a2 b7 → post (nI n, nI r, lo', 1, a1, a2, b3, b4, b5, b6, b7)) : wpX_findHeads post (nI n, nI r, lo, hk, a1, a2, a3, a4, a5, a6, a7) := by
  unfold wpX_findHeads
  exact sd_lift (fun b3 h3 => sd_fill hn1 hn hr hS (fun b4 b5 b6 hM => sd_bs hn1 hn hr hM (sd_F_0 hn1 hn hr h3) (fun v hv => ⟨n + 1, sd_h20 hn1 hn hr hS hv h3 (fun c3 c4 c5 c6 c7 h => H _ c3 c4 c5 c6 c7 h) n 1 a7 (by omega) (by omega)⟩)))
theorem sd_h27 {post : Int32 → St2 → Prop} {wc rt lo hk : Int32} {a1 a2 a3 a4 a5 a6 a7 : Nat → Int32} {d h : Nat} (hd : d ≤ 5) (hh : h ≤ 5) (h7 : a7 d = nI h) (H : post (nI h) (wc, rt, lo, hk, a1, a2, a3, a4, a5, a6, a7)) : wX_head_27 post (nI d) wc rt lo hk a1 a2 a3 a4 a5 a6 a7 := by
  unfold wX_head_27
  rw [nI_clamp (by omega), h7]
  exact ⟨pk_in d 6 (by omega), pk_le 0 h (fun _ => ⟨pk_in d 6 (by omega), H⟩) (fun z => absurd z (by omega))⟩
theorem sd_head {post : Int32 → St2 → Prop} {g lo hk : Int32} {a1 a2 a3 a4 a5 a6 a7 : Nat → Int32} {n r d : Nat} (hn1 : 1 ≤ n) (hn : n ≤ 5) (hr : r ≤ 1) (hS : sd_S a1) (hg : sd_mx a1 (sd_F0 n r a2) g) (hd1 : 1 ≤ d) (hd : d ≤ n) (hI : hk ≠ 0 → sd_HK n r a1 a2 a7) (H : ∀ x lo' hk' b3 b4 b5 b6 b7, x ∈ sd_F0 n r a2 → sd_sc a1 x = g.toInt → (hk' ≠ 0 → sd_HK n r a1 a2 b7) → post (nI (sd_hd x d)) (nI n, nI r, lo', hk', a1, a2, b3, b4, b5, b6, b7)) : wpX_head post (nI n, nI r, lo, hk, a1, a2, a3, a4, a5, a6, a7) (nI d) := by
  have fin : ∀ lo' hk' b3 b4 b5 b6 b7, sd_HK n r a1 a2 b7 → wX_head_27 post (nI d) (nI n) (nI r) lo' hk' a1 a2 b3 b4 b5 b6 b7 := by
    intro lo' hk' b3 b4 b5 b6 b7 h
    obtain ⟨x, hx, hs, h7⟩ := h g hg d hd1 hd
    have hb := ((sd_dx hn1 hn hr (sd_F0_mem.mp hx).1).2.2 d hd1 hd).1
    exact sd_h27 (by omega) (by omega) h7 (H x lo' hk' b3 b4 b5 b6 b7 hx hs (fun _ => h))
  unfold wpX_head
  exact pk_lt d 1 (fun z => absurd z (by omega)) (fun _ => pk_le d n (fun _ => br_c (fun z => sd_findHeads hn1 hn hr hS (fun lo' b3 b4 b5 b6 b7 h => fin lo' 1 b3 b4 b5 b6 b7 h)) (fun z => fin lo hk a3 a4 a5 a6 a7 (hI z))) (fun z => absurd z (by omega)))
theorem sd_bestAt {post : Int32 → St2 → Prop} {g lo hk : Int32} {a1 a2 a3 a4 a5 a6 a7 : Nat → Int32} {n r d : Nat} (hn1 : 1 ≤ n) (hn : n ≤ 5) (hr : r ≤ 1) (hS : sd_S a1) (hg : sd_mx a1 (sd_F0 n r a2) g) (hd1 : 1 ≤ d) (hd : d ≤ n) (hI : hk ≠ 0 → sd_HK n r a1 a2 a7) (H : ∀ lo' hk' b3 b4 b5 b6 b7, (hk' ≠ 0 → sd_HK n r a1 a2 b7) → post g (nI n, nI r, lo', hk', a1, a2, b3, b4, b5, b6, b7)) : wpL_bestAt post (nI n, nI r, lo, hk, a1, a2, a3, a4, a5, a6, a7) (nI d) := by
  unfold wpL_bestAt
  refine sd_head hn1 hn hr hS hg hd1 hd hI (fun x lo' hk' b3 b4 b5 b6 b7 hx hs hI' => ?_)
  have hb := (sd_dx hn1 hn hr (sd_F0_mem.mp hx).1).2.2 d hd1 hd
  refine sd_bestWith hn1 hn hr hS hd1 hd hb.1 hb.2.1 (fun v lo2 c3 c4 c5 c6 hv => ?_)
  have hxW : x ∈ sd_W n r a2 d (sd_hd x d) := sd_W_mem.mpr ⟨hx, rfl⟩
  have ev : v = g := by
    rcases hv with hv | hv
    · rw [hv.1] at hxW
      exact absurd hxW List.not_mem_nil
    · have q1 := hv.2.1 x hxW
      obtain ⟨y, hy, hys⟩ := hv.2.2
      have q2 := hg.1 y (sd_W_mem.mp hy).1
      exact Int32.toInt_inj.mp (by omega)
  rw [ev]
  exact H lo2 hk' c3 c4 c5 c6 b7 hI'
end
section
/-! what the law asks after each turn -/
def sd_cn (n r : Nat) (a2 : Nat → Int32) (d h : Nat) : Nat := ((sd_ft n r 144).filter (fun x => x.all (sd_o a2) && decide (sd_hd x d < h))).length
theorem sd_len3 (p q s : List Nat → Bool) (A : List (List Nat)) (h : ∀ x, x ∈ A → (p x = true ↔ (q x = true ∨ s x = true)) ∧ ¬ (q x = true ∧ s x = true)) : (A.filter p).length = (A.filter q).length + (A.filter s).length := by
  induction A with
  | nil => rfl
  | cons x A ih =>
    have h0 := h x (List.mem_cons_self ..)
    have h1 := ih (fun y hy => h y (List.mem_cons_of_mem _ hy))
    rw [List.filter_cons, List.filter_cons, List.filter_cons]
    cases hp : p x <;> cases hq : q x <;> cases hs : s x <;> simp [hp, hq, hs] at h0 ⊢ <;> omega
theorem sd_cn_s (n r : Nat) (a2 : Nat → Int32) (d h : Nat) : sd_cn n r a2 d (h + 1) = sd_cn n r a2 d h + (sd_W n r a2 d h).length := by
  refine sd_len3 _ _ _ _ (fun x _ => ?_)
  simp only [Bool.and_eq_true, decide_eq_true_eq]
  constructor
  · constructor
    · intro z
      rcases (show sd_hd x d < h ∨ sd_hd x d = h by omega) with q | q
      · exact Or.inl ⟨z.1, q⟩
      · exact Or.inr ⟨z.1, q⟩
    · intro z
      rcases z with z | z
      · exact ⟨z.1, by omega⟩
      · exact ⟨z.1, by omega⟩
  · intro z
    omega
theorem sd_cn_d {n r d : Nat} (hn1 : 1 ≤ n) (hn : n ≤ 5) (hr : r ≤ 1) (hd1 : 1 ≤ d) (hd : d ≤ n) (a2 : Nat → Int32) : sd_cn n r a2 d (d + 1) = sd_cn n r a2 d d := by
  refine congrArg List.length (List.filter_congr (fun x hx => sd_beq ?_))
  have hb := ((sd_dx hn1 hn hr hx).2.2 d hd1 hd).2.1
  simp only [Bool.and_eq_true, decide_eq_true_eq]
  exact ⟨fun z => ⟨z.1, by omega⟩, fun z => ⟨z.1, by omega⟩⟩
theorem sd_cn_0 (n r : Nat) (a2 : Nat → Int32) (d : Nat) : sd_cn n r a2 d 0 = 0 := by
  refine List.length_eq_zero_iff.mpr (List.filter_eq_nil_iff.mpr (fun x _ z => ?_))
  simp only [Bool.and_eq_true, decide_eq_true_eq] at z
  omega
theorem sd_cn_n {n r d : Nat} (hn1 : 1 ≤ n) (hn : n ≤ 5) (hr : r ≤ 1) (hd1 : 1 ≤ d) (hd : d ≤ n) (a2 : Nat → Int32) : sd_cn n r a2 d (n + 1) = (sd_F0 n r a2).length := by
  refine congrArg List.length (List.filter_congr (fun x hx => sd_beq ?_))
  have hb := ((sd_dx hn1 hn hr hx).2.2 d hd1 hd).1
  simp only [Bool.and_eq_true, decide_eq_true_eq]
  exact ⟨fun z => z.1, fun z => ⟨z, by omega⟩⟩
theorem sd_max {n r d h : Nat} {a1 a2 : Nat → Int32} {g v w : Int32} (hn1 : 1 ≤ n) (hn : n ≤ 5) (hr : r ≤ 1) (hS : sd_S a1) (hg : sd_mx a1 (sd_F0 n r a2) g) (h1 : sd_B a1 (sd_W n r a2 d h) v) (h2 : sd_B a1 (sd_N n r a2 d h) w) : (v ≤ w → w = g) ∧ (¬ v ≤ w → v = g) := by
  have bg := sd_mx_F0 hn1 hn hr hS hg
  have hv : v.toInt ≤ g.toInt := by
    rcases h1 with z | z
    · rw [z.2, sd_none]
      omega
    · obtain ⟨y, hy, e⟩ := z.2.2
      rw [← e]
      exact hg.1 y (sd_W_mem.mp hy).1
  have hw : w.toInt ≤ g.toInt := by
    rcases h2 with z | z
    · rw [z.2, sd_none]
      omega
    · obtain ⟨y, hy, e⟩ := z.2.2
      rw [← e]
      exact hg.1 y (sd_N_mem.mp hy).1
  have he : g.toInt ≤ v.toInt ∨ g.toInt ≤ w.toInt := by
    obtain ⟨x, hx, e⟩ := hg.2
    by_cases q : sd_hd x d = h
    · have m := sd_W_mem.mpr ⟨hx, q⟩
      rcases h1 with z | z
      · rw [z.1] at m
        exact absurd m List.not_mem_nil
      · exact Or.inl (by rw [← e]; exact z.2.1 x m)
    · have m := sd_N_mem.mpr ⟨hx, q⟩
      rcases h2 with z | z
      · rw [z.1] at m
        exact absurd m List.not_mem_nil
      · exact Or.inr (by rw [← e]; exact z.2.1 x m)
  rw [Int32.le_iff_toInt_le]
  exact ⟨fun z => Int32.toInt_inj.mp (by omega), fun z => Int32.toInt_inj.mp (by omega)⟩
theorem sd_h25 {post : Int32 → St2 → Prop} {J : Int32 → Int32 → Int32 → Int32 → Int32 → (Nat → Int32) → (Nat → Int32) → (Nat → Int32) → (Nat → Int32) → (Nat → Int32) → (Nat → Int32) → (Nat → Int32) → Prop} {g : Int32} {a1 a2 : Nat → Int32} {n r d : Nat} (hn1 : 1 ≤ n) (hn : n ≤ 5) (hr : r ≤ 1) (hS : sd_S a1) (hg : sd_B a1 (sd_F0 n r a2) g) (hd1 : 1 ≤ d) (hd : d ≤ n)
    (H : ∀ lo' hk' b3 b4 b5 b6 b7, (hk' ≠ 0 → sd_HK n r a1 a2 b7) → J (nI (d + 1)) (nI n) (nI r) lo' hk' a1 a2 b3 b4 b5 b6 b7) :
    ∀ (m h : Nat) (lo hk : Int32) (a3 a4 a5 a6 a7 : Nat → Int32), h + m = n + 1 → (hk ≠ 0 → sd_HK n r a1 a2 a7) → wL_holds_25 post J (nI n) g (nI (sd_F0 n r a2).length) (nI d) (m + 1) (nI (sd_cn n r a2 d h)) (nI h) (nI n) (nI r) lo hk a1 a2 a3 a4 a5 a6 a7 := by
  have hL0 : (sd_F0 n r a2).length ≤ 1000000 := sd_D_len hn1 hn hr _
  have hLc : ∀ h, sd_cn n r a2 d h ≤ 1000000 := fun h => sd_D_len hn1 hn hr _
  have mg : 0 < (sd_F0 n r a2).length → sd_mx a1 (sd_F0 n r a2) g := fun z => by
    rcases hg with q | q
    · rw [q.1] at z
      exact absurd z (Nat.lt_irrefl 0)
    · exact q.2
  intro m
  induction m with
  | zero =>
    intro h lo hk a3 a4 a5 a6 a7 hm hI
    have hc := hLc h
    have hh : h = n + 1 := by omega
    have hq : sd_cn n r a2 d h = (sd_F0 n r a2).length := by rw [hh]; exact sd_cn_n hn1 hn hr hd1 hd a2
    exact pk_lt n h (fun _ => pk_eq (sd_cn n r a2 d h) (sd_F0 n r a2).length (fun _ => pk_le (sd_F0 n r a2).length 0 (fun z => nm_r (nI_1 d) (H lo hk a3 a4 a5 a6 a7 hI)) (fun z => sd_bestAt hn1 hn hr hS (mg z) hd1 hd hI (fun lo' hk' b3 b4 b5 b6 b7 hI' => br_t rfl (nm_r (nI_1 d) (H lo' hk' b3 b4 b5 b6 b7 hI'))))) (fun z => absurd hq z)) (fun z => absurd z (by omega))
  | succ m ih =>
    intro h lo hk a3 a4 a5 a6 a7 hm hI
    refine pk_lt n h (fun z => absurd z (by omega)) (fun _ => pk_eq h d (fun e => nm_r (nI_1 h) ?_) (fun e => ?_))
    · have q := ih (h + 1) lo hk a3 a4 a5 a6 a7 (by omega) hI
      have ec : sd_cn n r a2 d (h + 1) = sd_cn n r a2 d h := by
        rw [e]
        exact sd_cn_d hn1 hn hr hd1 hd a2
      rw [ec] at q
      exact q
    · refine sd_treesWith hn1 hn hr hS hd1 hd (by omega) e (fun lo1 b3 b4 b5 b6 => nm_r (show nI (sd_cn n r a2 d h) + nI (sd_W n r a2 d h).length = nI (sd_cn n r a2 d (h + 1)) by rw [nI_add, sd_cn_s]) ?_)
      refine sd_bestWith hn1 hn hr hS hd1 hd (by omega) e (fun v lo2 c3 c4 c5 c6 hv => sd_bestWithout hn1 hn hr hS hd1 hd (by omega) e (fun w lo3 e3 e4 e5 e6 hw => ?_))
      refine pk_le (sd_F0 n r a2).length 0 (fun z => nm_r (nI_1 h) (ih (h + 1) lo3 hk e3 e4 e5 e6 a7 (by omega) hI)) (fun z => ?_)
      have mx := sd_max hn1 hn hr hS (mg z) hv hw
      exact br_c (fun q => br_t (mx.1 q) (nm_r (nI_1 h) (ih (h + 1) lo3 hk e3 e4 e5 e6 a7 (by omega) hI))) (fun q => br_t (mx.2 q) (nm_r (nI_1 h) (ih (h + 1) lo3 hk e3 e4 e5 e6 a7 (by omega) hI)))
theorem sd_h13 {post : Int32 → St2 → Prop} {g : Int32} {a1 a2 : Nat → Int32} {n r : Nat} (hn1 : 1 ≤ n) (hn : n ≤ 5) (hr : r ≤ 1) (hS : sd_S a1) (hg : sd_B a1 (sd_F0 n r a2) g) (H : ∀ lo' hk' b3 b4 b5 b6 b7, (hk' ≠ 0 → sd_HK n r a1 a2 b7) → post 1 (nI n, nI r, lo', hk', a1, a2, b3, b4, b5, b6, b7)) :
    ∀ (m d : Nat) (lo hk : Int32) (a3 a4 a5 a6 a7 : Nat → Int32), 1 ≤ d → d + m = n + 1 → (hk ≠ 0 → sd_HK n r a1 a2 a7) → wL_holds_13 post (nI n) g (nI (sd_F0 n r a2).length) (m + 1) (nI d) (nI n) (nI r) lo hk a1 a2 a3 a4 a5 a6 a7
  | 0, d, lo, hk, a3, a4, a5, a6, a7, hd1, hm, hI => pk_lt n d (fun _ => H lo hk a3 a4 a5 a6 a7 hI) (fun z => absurd z (by omega))
  | m + 1, d, lo, hk, a3, a4, a5, a6, a7, hd1, hm, hI => by
    refine pk_lt n d (fun z => absurd z (by omega)) (fun _ => ⟨n + 2, ?_⟩)
    have q := sd_h25 (post := post) (J := wL_holds_13 post (nI n) g (nI (sd_F0 n r a2).length) (m + 1)) hn1 hn hr hS hg hd1 (by omega) (fun lo' hk' b3 b4 b5 b6 b7 hI' => sd_h13 hn1 hn hr hS hg H m (d + 1) lo' hk' b3 b4 b5 b6 b7 (by omega) (by omega) hI') (n + 1) 0 lo hk a3 a4 a5 a6 a7 (by omega) hI
    rw [sd_cn_0] at q
    exact q
theorem sd_holds {post : Int32 → St2 → Prop} {lo hk : Int32} {a1 a2 a3 a4 a5 a6 a7 : Nat → Int32} {n r : Nat} (hn1 : 1 ≤ n) (hn : n ≤ 5) (hr : r ≤ 1) (hS : sd_S a1) (hI : hk ≠ 0 → sd_HK n r a1 a2 a7) (H : ∀ lo' hk' b3 b4 b5 b6 b7, (hk' ≠ 0 → sd_HK n r a1 a2 b7) → post 1 (nI n, nI r, lo', hk', a1, a2, b3, b4, b5, b6, b7)) : wpL_holds post (nI n, nI r, lo, hk, a1, a2, a3, a4, a5, a6, a7) (nI n) := by
  unfold wpL_holds
  exact sd_best hn1 hn hr hS (fun v lo1 b3 b4 b5 b6 hv => sd_trees hn1 hn hr hS (fun lo2 c3 c4 c5 c6 => ⟨n + 1, sd_h13 hn1 hn hr hS hv H n 1 lo2 hk c3 c4 c5 c6 a7 (by omega) (by omega) hI⟩))
end
section
/-! the turns of the law -/
theorem sd_S_u {a1 : Nat → Int32} {k : Nat} {c : Int32} (hS : sd_S a1) (h1 : -1000 ≤ c.toInt) (h2 : c.toInt ≤ 1000) : sd_S (upd a1 k c) := by
  intro e he
  by_cases q : e = k
  · rw [q, pk_us]
    exact ⟨h1, h2⟩
  · rw [pk_un q]
    exact hS e he
theorem sd_score {post : Int32 → St2 → Prop} {lo hk c : Int32} {a1 a2 a3 a4 a5 a6 a7 : Nat → Int32} {n r h d : Nat} (hn : n ≤ 5) (hh : h ≤ n) (hd1 : 1 ≤ d) (hd : d ≤ n) (hS : sd_S a1) (hI : hk ≠ 0 → sd_HK n r a1 a2 a7) (H : ∀ v hk' b1, sd_S b1 → (hk' ≠ 0 → sd_HK n r b1 a2 a7) → post v (nI n, nI r, lo, hk', b1, a2, a3, a4, a5, a6, a7)) : wpX_score post (nI n, nI r, lo, hk, a1, a2, a3, a4, a5, a6, a7) (nI h) (nI d) c := by
  unfold wpX_score
  have k1 : (-1000 : Int32).toInt = -1000 := by decide
  have k2 : (1000 : Int32).toInt = 1000 := by decide
  refine sd_isArc hn hh hd1 hd (fun _ => br_f (by decide) (br_c (fun _ => H 0 hk a1 hS hI) (fun z1 => br_c (fun z2 => ⟨pk_in (6 * h + d) 36 (by omega) (sd_i6 h d), nm_e (H 1 0 _ ?_ (fun z => absurd rfl z))⟩) (fun _ => H 0 hk a1 hS hI)))) (fun _ => br_t rfl (H 0 hk a1 hS hI))
  rw [Int32.lt_iff_toInt_lt, k1] at z1
  rw [Int32.le_iff_toInt_le, k2] at z2
  exact sd_S_u hS (by omega) z2
theorem sd_ban {post : Int32 → St2 → Prop} {lo hk c : Int32} {a1 a2 a3 a4 a5 a6 a7 : Nat → Int32} {n r h d : Nat} (hn : n ≤ 5) (hh : h ≤ n) (hd1 : 1 ≤ d) (hd : d ≤ n) (hI : hk ≠ 0 → sd_HK n r a1 a2 a7) (H : ∀ v hk' b2, (hk' ≠ 0 → sd_HK n r a1 b2 a7) → post v (nI n, nI r, lo, hk', a1, b2, a3, a4, a5, a6, a7)) : wpX_ban post (nI n, nI r, lo, hk, a1, a2, a3, a4, a5, a6, a7) (nI h) (nI d) c := by
  unfold wpX_ban
  exact sd_isArc hn hh hd1 hd (fun _ => br_f (by decide) ⟨pk_in (6 * h + d) 36 (by omega) (sd_i6 h d), nm_e (H 1 0 _ (fun z => absurd rfl z))⟩) (fun _ => br_t rfl (H 0 hk a2 hI))
theorem sd_lc {post : Int32 → St2 → Prop} {wc rt lo hk : Int32} {a3 a4 a5 a6 a7 : Nat → Int32} (H : ∀ v b1 b2, sd_S b1 → post v (wc, rt, lo, 0, b1, b2, a3, a4, a5, a6, a7)) : ∀ (m i : Nat) (x1 : Int32) (a1 a2 : Nat → Int32), i + m = 36 → sd_S a1 → wX_clear_4 post wc rt lo hk (m + 1) x1 (nI i) a1 a2 a3 a4 a5 a6 a7
  | 0, i, x1, a1, a2, hi, hS => pk_le 36 i (fun _ => H x1 a1 a2 hS) (fun z => absurd z (by omega))
  | m + 1, i, x1, a1, a2, hi, hS => by
    have nx : ∀ y, wX_clear_22 post (wX_clear_4 post wc rt lo hk (m + 1)) y (nI i) wc rt lo hk a1 a2 a3 a4 a5 a6 a7 := by
      intro y
      unfold wX_clear_22
      exact ⟨pk_in i 36 (by omega), nm_e ⟨pk_in i 36 (by omega), nm_e (nm_r (nI_1 i) (sd_lc H m (i + 1) y _ _ (by omega) (sd_S_u hS (by decide) (by decide))))⟩⟩
    exact pk_le 36 i (fun z => absurd z (by omega)) (fun _ => ⟨pk_in i 36 (by omega), br_c (fun _ => nx x1) (fun _ => nm_e (nx _))⟩)
theorem sd_clear {post : Int32 → St2 → Prop} {wc rt lo hk : Int32} {a1 a2 a3 a4 a5 a6 a7 : Nat → Int32} (hS : sd_S a1) (H : ∀ v b1 b2, sd_S b1 → post v (wc, rt, lo, 0, b1, b2, a3, a4, a5, a6, a7)) : wpX_clear post (wc, rt, lo, hk, a1, a2, a3, a4, a5, a6, a7) := by
  unfold wpX_clear
  exact ⟨37, sd_lc H 36 0 0 a1 a2 rfl hS⟩
theorem sd_lt4 {L k : Nat} (hL : L ≤ 260) (hk : k ≤ 300) : (Int32.ofNat L - 4 < nI k) ↔ L < k + 4 := by
  rw [Int32.lt_iff_toInt_lt, show Int32.ofNat L - 4 = nI L - nI 4 from rfl, pk_sub_toInt (by omega) (by omega), nI_toInt (by omega)]
  omega
theorem sd_mod (y : Int32) {n : Nat} (h0 : 0 < n) (hn : n ≤ 300) : ∃ j : Nat, j < n ∧ (y &&& 255) - (y &&& 255) / nI n * nI n = nI j := by
  obtain ⟨j, hj, ej⟩ := pk_andE y 8 (m := 255) (by decide)
  exact ⟨j % n, Nat.mod_lt _ h0, by rw [ej]; exact pk_rem (by omega) h0 (by omega)⟩
theorem sd_l32 {L : Nat} {xs : Nat → Int32} {kc ks n r : Nat} (hL : L ≤ 260) (hn1 : 1 ≤ n) (hn : n ≤ 5) (hr : r ≤ 1) : ∀ (f k : Nat) (lo hk : Int32) (a1 a2 a3 a4 a5 a6 a7 : Nat → Int32), k ≤ 300 → L + 1 ≤ k + f → sd_S a1 → (hk ≠ 0 → sd_HK n r a1 a2 a7) → wL_law_32 (fun v => v = 1) L xs (nI n) kc ks (f + 1) (nI k) (nI n) (nI r) lo hk a1 a2 a3 a4 a5 a6 a7 := by
  intro f
  induction f with
  | zero =>
    intro k lo hk a1 a2 a3 a4 a5 a6 a7 hk3 hf hS hI
    exact ek_if (sd_lt4 hL hk3) (fun _ => sd_holds hn1 hn hr hS hI (fun _ _ _ _ _ _ _ _ => rfl)) (fun z => absurd (show L < k + 4 by omega) z)
  | succ f ih =>
    intro k lo hk a1 a2 a3 a4 a5 a6 a7 hk3 hf hS hI
    have nxt : ∀ lo hk a1 a2 a3 a4 a5 a6 a7, k + 4 ≤ L → sd_S a1 → (hk ≠ 0 → sd_HK n r a1 a2 a7) → wL_law_197 (fun v => v = 1) L xs (wL_law_32 (fun v => v = 1) L xs (nI n) kc ks (f + 1)) (nI n) (nI k) kc ks (nI n) (nI r) lo hk a1 a2 a3 a4 a5 a6 a7 := by
      intro lo hk a1 a2 a3 a4 a5 a6 a7 hkL hS hI
      unfold wL_law_197
      exact sd_holds hn1 hn hr hS hI (fun lo' hk' b3 b4 b5 b6 b7 hI' => br_f (by decide) (nm_r (nI_add k 4) (ih (k + 4) lo' hk' a1 a2 b3 b4 b5 b6 b7 (by omega) (by omega) hS hI')))
    refine ek_if (sd_lt4 hL hk3) (fun _ => sd_holds hn1 hn hr hS hI (fun _ _ _ _ _ _ _ _ => rfl)) (fun z => ?_)
    have hkL : k + 4 ≤ L := by omega
    obtain ⟨h, hh, eh⟩ := sd_mod (xs (nI k + 1).toNatClampNeg) (n := n + 1) (by omega) (by omega)
    rw [← nI_1 n] at eh
    obtain ⟨d, hd, ed⟩ := sd_mod (xs (nI k + 2).toNatClampNeg) (n := n) (by omega) (by omega)
    obtain ⟨q, hq, eq⟩ := pk_andE (xs (nI k).toNatClampNeg) 3 (m := 7) (by decide)
    have ed' : 1 + ((xs (nI k + 2).toNatClampNeg &&& 255) - (xs (nI k + 2).toNatClampNeg &&& 255) / nI n * nI n) = nI (1 + d) := by rw [ed]; exact nI_add 1 d
    have hq' : q < 8 := hq
    refine ⟨pk_in (k + 1) L (by omega) (nI_1 k), (by rw [nI_1]; exact nI_ne0 (by omega) (by omega)), nm_r eh ⟨pk_in (k + 2) L (by omega) (nI_add k 2), nI_ne0 (by omega) (by omega), nm_r ed' ⟨pk_in (k + 3) L (by omega) (nI_add k 3), nm_e ⟨pk_in k L (by omega), nm_r eq ?_⟩⟩⟩⟩
    exact pk_lt q 0 (fun z => absurd z (by omega)) (fun _ => pk_lt 3 q (fun _ => sd_score hn (by omega) (by omega) (by omega) hS hI (fun v hk' b1 hS' hI' => nxt lo hk' b1 a2 a3 a4 a5 a6 a7 hkL hS' hI')) (fun _ => pk_eq q 0 (fun _ => sd_ban hn (by omega) (by omega) (by omega) hI (fun v hk' b2 hI' => nxt lo hk' a1 b2 a3 a4 a5 a6 a7 hkL hS hI')) (fun _ => pk_eq q 1 (fun _ => br_c (fun _ => sd_ban hn (by omega) (by omega) (by omega) hI (fun v hk' b2 hI' => nxt lo hk' a1 b2 a3 a4 a5 a6 a7 hkL hS hI')) (fun _ => sd_ban hn (by omega) (by omega) (by omega) hI (fun v hk' b2 hI' => nxt lo hk' a1 b2 a3 a4 a5 a6 a7 hkL hS hI'))) (fun _ => pk_eq q 2 (fun _ => br_c (fun _ => sd_clear hS (fun v b1 b2 hS' => nxt lo 0 b1 b2 a3 a4 a5 a6 a7 hkL hS' (fun z => absurd rfl z))) (fun _ => nxt lo hk a1 a2 a3 a4 a5 a6 a7 hkL hS hI)) (fun _ => pk_eq q 3 (fun _ => sd_score hn (by omega) (by omega) (by omega) hS hI (fun v hk' b1 hS' hI' => nxt lo hk' b1 a2 a3 a4 a5 a6 a7 hkL hS' hI')) (fun _ => trivial))))))
theorem sd_cell {post : Int32 → Prop} {L : Nat} {xs : Nat → Int32} {p : Int32} (k : Nat) (hL : L ≤ 260) (hk : k ≤ 5) (hp : p = nI k) (H : ∀ v, post v) : wpL_cell post L xs () p := by
  subst hp
  unfold wpL_cell
  exact pk_le L k (fun _ => H _) (fun z => ⟨pk_in k L z, H _⟩)
theorem sd_init {post : St2 → Prop} {n : Nat} {p : Int32} (hn1 : 1 ≤ n) (hn : n ≤ 5) (H : ∀ r b3, r ≤ 1 → post (nI n, nI r, -1, 0, fun _ => 0, fun _ => 0, b3, fun _ => 0, fun _ => 0, fun _ => 0, fun _ => 0)) : wpX_init post 7 519 (0, 0, 0, 0) (nI n) p := by
  have fin : wX_init_83 post 7 519 p (nI n) 7 519 0 0 0 0 (fun _ => 0) (fun _ => 0) (fun _ => 0) (fun _ => 0) (fun _ => 0) (fun _ => 0) (fun _ => 0) := by
    unfold wX_init_83
    refine br_c (fun _ => ?_) (fun _ => ?_)
    · unfold wX_init_96
      exact ⟨rfl, rfl, sd_lift (fun b3 _ => H 0 b3 (by omega))⟩
    · unfold wX_init_96
      exact ⟨rfl, rfl, sd_lift (fun b3 _ => H 1 b3 (by omega))⟩
  unfold wpX_init
  exact ⟨by omega, by omega, by omega, by omega, by omega, by omega, by omega, by omega, by omega, by omega, by omega, by omega, by omega, by omega, pk_le 1 n (fun _ => pk_le n 5 (fun _ => fin) (fun z => absurd z (by omega))) (fun z => absurd z (by omega))⟩
theorem i_vc (xs : Nat → Int32) (L : Nat) (hL : L ≤ 260) : wpL_law (fun r => r = 1) L xs := by
  unfold wpL_law
  refine sd_cell 0 hL (by omega) rfl (fun v => ⟨by decide, ?_⟩)
  obtain ⟨j, hj, ej⟩ := sd_mod v (n := 5) (by omega) (by omega)
  have e1 : 1 + ((v &&& 255) - (v &&& 255) / 5 * 5) = nI (1 + j) := (congrArg (fun z => (1 : Int32) + z) ej).trans (nI_add 1 j)
  refine nm_r e1 (sd_cell 1 hL (by omega) rfl (fun w => ⟨7, 519, by omega, by omega, sd_init (by omega) (by omega) (fun r b3 hr => ⟨L + 2, ?_⟩)⟩))
  exact sd_l32 hL (by omega) (by omega) hr (L + 1) 2 _ _ _ _ _ _ _ _ _ (by omega) (by omega) (fun e _ => by decide) (fun z => absurd rfl z)
end

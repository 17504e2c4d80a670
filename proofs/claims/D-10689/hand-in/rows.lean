section
/-! the pure picture: rows as lists of lists, words as lists -/
abbrev ri_T : Type := List (List Nat)
def ri_row (T : ri_T) (r : Nat) : List Nat := T.getD r []
/-- the rows T lie at block b of the entries E and the lengths G -/
def ri_mt (E G : Nat → Int32) (b : Nat) (T : ri_T) : Prop :=
  T.length = 7 ∧ ∀ r, r < 7 → ((ri_row T r).length ≤ 7 ∧ G (7 * b + r) = nI (ri_row T r).length ∧
    ∀ c, c < (ri_row T r).length → ((ri_row T r).getD c 0 ≤ 7 ∧ E (49 * b + 7 * r + c) = nI ((ri_row T r).getD c 0)))
/-- the word W and the rows T of word w -/
def ri_pw (a1 a2 a3 a4 : Nat → Int32) (w : Nat) (W : List Nat) (T : ri_T) : Prop :=
  W.length ≤ 7 ∧ a1 w = nI W.length ∧ (∀ i, i < W.length → (W.getD i 0 ≤ 7 ∧ a2 (7 * w + i) = nI (W.getD i 0))) ∧ ri_mt a3 a4 w T
/-- all outside word w is as it was -/
def ri_fr (w : Nat) (a1 a2 a3 a4 b1 b2 b3 b4 : Nat → Int32) : Prop :=
  (∀ j, j ≠ w → b1 j = a1 j) ∧ (∀ j, (j < 7 * w ∨ 7 * w + 7 ≤ j) → b2 j = a2 j) ∧
  (∀ j, (j < 49 * w ∨ 49 * w + 49 ≤ j) → b3 j = a3 j) ∧ (∀ j, (j < 7 * w ∨ 7 * w + 7 ≤ j) → b4 j = a4 j)
def ri_E0 : ri_T := [[], [], [], [], [], [], []]
/-- the first place above x -/
def ri_fa (x : Nat) : List Nat → Nat
  | [] => 0
  | y :: ys => if x < y then 0 else ri_fa x ys + 1
def ri_ins : Nat → Nat → ri_T → Nat → Option ri_T
  | 0, _, _, _ => none
  | k + 1, r, T, x =>
    if r < 7 then
      (if ri_fa x (ri_row T r) = (ri_row T r).length then
        (if (ri_row T r).length < 7 then some (T.set r (ri_row T r ++ [x])) else none)
      else ri_ins k (r + 1) (T.set r ((ri_row T r).set (ri_fa x (ri_row T r)) x)) ((ri_row T r).getD (ri_fa x (ri_row T r)) 0))
    else none
def ri_tb : List Nat → ri_T → Option ri_T
  | [], T => some T
  | x :: xs, T => match ri_ins 7 0 T x with
    | none => none
    | some U => ri_tb xs U
def ri_lb (R : List Nat) (x : Nat) : Nat → Nat
  | 0 => 0
  | c + 1 => if R.getD (c + 1) 0 < x then c + 1 else ri_lb R x c
def ri_bmp : Nat → ri_T → Nat → Option (ri_T × Nat)
  | 0, T, x => some (T, x)
  | r + 1, T, x =>
    if 0 < (ri_row T r).length then
      ri_bmp r (T.set r ((ri_row T r).set (ri_lb (ri_row T r) x ((ri_row T r).length - 1)) x)) ((ri_row T r).getD (ri_lb (ri_row T r) x ((ri_row T r).length - 1)) 0)
    else none
def ri_cor (T : ri_T) (r : Nat) : Bool := decide ((if r + 1 < 7 then (ri_row T (r + 1)).length else 0) < (ri_row T r).length)
def ri_tk (T : ri_T) (r : Nat) : Option (ri_T × Nat) :=
  ri_bmp r (T.set r ((ri_row T r).take ((ri_row T r).length - 1))) ((ri_row T r).getD ((ri_row T r).length - 1) 0)
def ri_cd : List Nat → Nat → Nat
  | [], v => v
  | x :: xs, v => ri_cd xs (8 * v + x)
def ri_kc (v : Nat) : List Nat → Option (List Nat)
  | [] => some [v]
  | [d] => some (if d ≤ v then [d, v] else [v, d])
  | _ => none
/-- rows taken apart: level, the stack of rows and tries, the letters that came, the codes -/
def ri_run (m : Nat) : Nat → Nat → List (ri_T × Nat) → List Nat → List Nat → Option (List Nat)
  | 0, _, _, _, _ => none
  | k + 1, lv, st, cm, cs =>
    if m < lv then some cs else
    match st with
    | [] => none
    | (T, t) :: rest =>
      if lv = 0 then
        (if cm.length = m ∧ ri_cd cm 0 < 1000 then
          (match ri_kc (ri_cd cm 0) cs with
          | none => none
          | some cs' => ri_run m k 1 rest cm.tail cs')
        else none)
      else if t = 7 then ri_run m k (lv + 1) rest cm.tail cs
      else if t < 7 then
        (if ri_cor T t = true then
          (match ri_tk T t with
          | none => none
          | some p => ri_run m k (lv - 1) ((p.1, 0) :: (T, t + 1) :: rest) (p.2 :: cm) cs)
        else ri_run m k lv ((T, t + 1) :: rest) cm cs)
      else none
def ri_hk (T : ri_T) (c : Nat) : Nat → Nat → Nat
  | 0, _ => 0
  | k + 1, q => (if (ri_row T q).length ≤ c then 0 else 1) + ri_hk T c k (q + 1)
def ri_kin (T : ri_T) : Nat → Nat → Nat → Nat → Nat → Nat × Nat
  | 0, _, a, b, _ => (a, b)
  | k + 1, j, a, b, t =>
    if (ri_row T (j / 7)).length ≤ j % 7 then ri_kin T k (j + 1) a b t
    else ri_kin T k (j + 1) (a * (t + 1)) (b * ((ri_row T (j / 7)).length - j % 7 + ri_hk T (j % 7) (6 - j / 7) (j / 7 + 1))) (t + 1)
def ri_sum (T : ri_T) : Nat → Nat → Nat
  | 0, _ => 0
  | k + 1, r => (ri_row T r).length + ri_sum T k (r + 1)
def ri_sml (T : ri_T) (m : Nat) : Nat → Nat → Nat
  | 0, _ => 0
  | k + 1, r => (if m ≤ (ri_row T r).length then m else (ri_row T r).length) + ri_sml T m k (r + 1)
/-! numbers -/
theorem ri_b : ∀ t, t < 128 → (nI t).toInt8.toInt32 = nI t := by decide +kernel
theorem ri_vb {t : Nat} (h : t < 128) : vp_nar .byte (nI t) = nI t := by
  rw [vp_nar_byte]
  exact ri_b t h
theorem ri_7 (w r : Nat) : (7 : Int32) * nI w + nI r = nI (7 * w + r) := by
  rw [show (7 : Int32) = nI 7 from rfl, pk_mul, nI_add]
theorem ri_49 (w r : Nat) : (49 : Int32) * nI w + nI r = nI (49 * w + r) := by
  rw [show (49 : Int32) = nI 49 from rfl, pk_mul, nI_add]
theorem ri_49c (w r c : Nat) : (49 : Int32) * nI w + 7 * nI r + nI c = nI (49 * w + 7 * r + c) := by
  rw [show (49 : Int32) = nI 49 from rfl, show (7 : Int32) = nI 7 from rfl, pk_mul, pk_mul, nI_add, nI_add]
theorem ri_c7 (w r : Nat) (h : 7 * w + r < 2 ^ 31) : ((7 : Int32) * nI w + nI r).toNatClampNeg = 7 * w + r := by
  rw [ri_7]
  exact nI_clamp h
theorem ri_c49 (w r : Nat) (h : 49 * w + r < 2 ^ 31) : ((49 : Int32) * nI w + nI r).toNatClampNeg = 49 * w + r := by
  rw [ri_49]
  exact nI_clamp h
theorem ri_c49c (w r c : Nat) (h : 49 * w + 7 * r + c < 2 ^ 31) : ((49 : Int32) * nI w + 7 * nI r + nI c).toNatClampNeg = 49 * w + 7 * r + c := by
  rw [ri_49c]
  exact nI_clamp h
/-! rows -/
theorem ri_set {T : ri_T} {r q : Nat} {R : List Nat} (hr : r < T.length) : ri_row (T.set r R) q = if q = r then R else ri_row T q := by
  unfold ri_row
  by_cases h : q = r
  · subst h
    rw [if_pos rfl, List.getD_eq_getElem?_getD, List.getElem?_set_self hr]
    rfl
  · rw [if_neg h, List.getD_eq_getElem?_getD, List.getD_eq_getElem?_getD, List.getElem?_set_ne (fun e => h e.symm)]
theorem ri_gset {R : List Nat} {c j x : Nat} (hc : c < R.length) : (R.set c x).getD j 0 = if j = c then x else R.getD j 0 := by
  by_cases h : j = c
  · subst h
    rw [if_pos rfl, List.getD_eq_getElem?_getD, List.getElem?_set_self hc]
    rfl
  · rw [if_neg h, List.getD_eq_getElem?_getD, List.getD_eq_getElem?_getD, List.getElem?_set_ne (fun e => h e.symm)]
theorem ri_gapp {R : List Nat} {j x : Nat} (hj : j < R.length + 1) : (R ++ [x]).getD j 0 = if j = R.length then x else R.getD j 0 := by
  by_cases h : j = R.length
  · subst h
    rw [if_pos rfl, List.getD_eq_getElem?_getD, List.getElem?_append_right (Nat.le_refl _), Nat.sub_self]
    rfl
  · rw [if_neg h, List.getD_eq_getElem?_getD, List.getD_eq_getElem?_getD, List.getElem?_append_left (by omega)]
theorem ri_gtake {R : List Nat} {j k : Nat} (hj : j < k) : (R.take k).getD j 0 = R.getD j 0 := by
  rw [List.getD_eq_getElem?_getD, List.getD_eq_getElem?_getD, List.getElem?_take_of_lt hj]
/-- rows elsewhere -/
theorem ri_mt_fr {E G E' G' : Nat → Int32} {b : Nat} {T : ri_T} (h : ri_mt E G b T) (hE : ∀ j, 49 * b ≤ j → j < 49 * b + 49 → E' j = E j) (hG : ∀ j, 7 * b ≤ j → j < 7 * b + 7 → G' j = G j) : ri_mt E' G' b T := by
  refine ⟨h.1, fun r hr => ?_⟩
  obtain ⟨h1, h2, h3⟩ := h.2 r hr
  refine ⟨h1, ?_, fun c hc => ⟨(h3 c hc).1, ?_⟩⟩
  · rw [hG _ (by omega) (by omega)]
    exact h2
  · rw [hE _ (by omega) (by omega)]
    exact (h3 c hc).2
theorem ri_mt_set {E G : Nat → Int32} {b r c x : Nat} {T : ri_T} (h : ri_mt E G b T) (hr : r < 7) (hc : c < (ri_row T r).length) (hx : x ≤ 7) :
    ri_mt (upd E (49 * b + 7 * r + c) (nI x)) G b (T.set r ((ri_row T r).set c x)) := by
  have hl := h.1
  refine ⟨by rw [List.length_set]; exact hl, fun q hq => ?_⟩
  obtain ⟨h1, h2, h3⟩ := h.2 q hq
  obtain ⟨k1, k2, k3⟩ := h.2 r hr
  rw [ri_set (by omega)]
  by_cases e : q = r
  · subst e
    rw [if_pos rfl, List.length_set]
    refine ⟨h1, h2, fun j hj => ?_⟩
    rw [ri_gset hc]
    by_cases ej : j = c
    · subst ej
      rw [if_pos rfl]
      exact ⟨hx, pk_us⟩
    · rw [if_neg ej, pk_un (by omega)]
      exact h3 j hj
  · rw [if_neg e]
    refine ⟨h1, h2, fun j hj => ⟨(h3 j hj).1, ?_⟩⟩
    rw [pk_un (by omega)]
    exact (h3 j hj).2
theorem ri_mt_app {E G : Nat → Int32} {b r x : Nat} {T : ri_T} (h : ri_mt E G b T) (hr : r < 7) (hc : (ri_row T r).length < 7) (hx : x ≤ 7) :
    ri_mt (upd E (49 * b + 7 * r + (ri_row T r).length) (nI x)) (upd G (7 * b + r) (nI ((ri_row T r).length + 1))) b (T.set r (ri_row T r ++ [x])) := by
  have hl := h.1
  refine ⟨by rw [List.length_set]; exact hl, fun q hq => ?_⟩
  obtain ⟨h1, h2, h3⟩ := h.2 q hq
  rw [ri_set (by omega)]
  by_cases e : q = r
  · subst e
    rw [if_pos rfl, List.length_append]
    refine ⟨by simp only [List.length_cons, List.length_nil]; omega, pk_us, fun j hj => ?_⟩
    simp only [List.length_cons, List.length_nil] at hj
    rw [ri_gapp (by omega)]
    by_cases ej : j = (ri_row T q).length
    · rw [if_pos ej, ej]
      exact ⟨hx, pk_us⟩
    · rw [if_neg ej, pk_un (by omega)]
      exact h3 j (by omega)
  · rw [if_neg e, pk_un (by omega)]
    refine ⟨h1, h2, fun j hj => ⟨(h3 j hj).1, ?_⟩⟩
    rw [pk_un (by omega)]
    exact (h3 j hj).2
theorem ri_mt_cut {E G : Nat → Int32} {b r : Nat} {T : ri_T} (h : ri_mt E G b T) (hr : r < 7) :
    ri_mt E (upd G (7 * b + r) (nI ((ri_row T r).length - 1))) b (T.set r ((ri_row T r).take ((ri_row T r).length - 1))) := by
  have hl := h.1
  refine ⟨by rw [List.length_set]; exact hl, fun q hq => ?_⟩
  obtain ⟨h1, h2, h3⟩ := h.2 q hq
  rw [ri_set (by omega)]
  by_cases e : q = r
  · subst e
    have el : ((ri_row T q).take ((ri_row T q).length - 1)).length = (ri_row T q).length - 1 := by
      rw [List.length_take]
      omega
    rw [if_pos rfl, el]
    refine ⟨by omega, pk_us, fun j hj => ?_⟩
    rw [ri_gtake hj]
    exact h3 j (by omega)
  · rw [if_neg e, pk_un (by omega)]
    exact ⟨h1, h2, h3⟩
theorem ri_mt_cp {E G E' G' : Nat → Int32} {b d : Nat} {T : ri_T} (h : ri_mt E G b T) (hE : ∀ k, k < 49 → E' (49 * d + k) = vp_nar .byte (E (49 * b + k))) (hG : ∀ r, r < 7 → G' (7 * d + r) = vp_nar .byte (G (7 * b + r))) : ri_mt E' G' d T := by
  refine ⟨h.1, fun r hr => ?_⟩
  obtain ⟨h1, h2, h3⟩ := h.2 r hr
  refine ⟨h1, ?_, fun c hc => ⟨(h3 c hc).1, ?_⟩⟩
  · rw [hG r hr, h2]
    exact ri_vb (by omega)
  · rw [Nat.add_assoc, hE _ (by omega), ← Nat.add_assoc, (h3 c hc).2]
    have := (h3 c hc).1
    exact ri_vb (by omega)
theorem ri_E0row (r : Nat) : ri_row ri_E0 r = [] := by
  unfold ri_row ri_E0
  match r with
  | 0 => rfl
  | 1 => rfl
  | 2 => rfl
  | 3 => rfl
  | 4 => rfl
  | 5 => rfl
  | 6 => rfl
  | n + 7 => rfl
theorem ri_mt_0 {E G : Nat → Int32} {b : Nat} (hG : ∀ r, r < 7 → G (7 * b + r) = 0) : ri_mt E G b ri_E0 := by
  refine ⟨rfl, fun r hr => ?_⟩
  rw [ri_E0row, hG r hr]
  exact ⟨by decide, rfl, fun c hc => absurd hc (Nat.not_lt_zero c)⟩
theorem ri_fr_pw {w v : Nat} {a1 a2 a3 a4 b1 b2 b3 b4 : Nat → Int32} {W : List Nat} {T : ri_T} (h : ri_fr w a1 a2 a3 a4 b1 b2 b3 b4) (hv : v ≠ w) (k : ri_pw a1 a2 a3 a4 v W T) : ri_pw b1 b2 b3 b4 v W T := by
  obtain ⟨f1, f2, f3, f4⟩ := h
  obtain ⟨k1, k2, k3, k4⟩ := k
  refine ⟨k1, by rw [f1 v hv]; exact k2, fun i hi => ⟨(k3 i hi).1, ?_⟩, ri_mt_fr k4 (fun j h1 h2 => f3 j (by omega)) (fun j h1 h2 => f4 j (by omega))⟩
  rw [f2 _ (by omega)]
  exact (k3 i hi).2
theorem ri_fa_le (x : Nat) (R : List Nat) : ri_fa x R ≤ R.length := by
  induction R with
  | nil => exact Nat.le_refl 0
  | cons y ys ih =>
    unfold ri_fa
    by_cases h : x < y
    · rw [if_pos h]
      exact Nat.zero_le _
    · rw [if_neg h, List.length_cons]
      omega
theorem ri_fa_lo (x : Nat) (R : List Nat) : ∀ j, j < ri_fa x R → R.getD j 0 ≤ x := by
  induction R with
  | nil => intro j hj; exact absurd hj (Nat.not_lt_zero j)
  | cons y ys ih =>
    intro j hj
    unfold ri_fa at hj
    by_cases h : x < y
    · rw [if_pos h] at hj
      exact absurd hj (Nat.not_lt_zero j)
    · rw [if_neg h] at hj
      match j with
      | 0 => show y ≤ x; omega
      | j + 1 => exact ih j (by omega)
theorem ri_fa_hi (x : Nat) (R : List Nat) : ri_fa x R < R.length → x < R.getD (ri_fa x R) 0 := by
  induction R with
  | nil => intro h; exact absurd h (Nat.not_lt_zero _)
  | cons y ys ih =>
    intro h0
    by_cases h : x < y
    · have e : ri_fa x (y :: ys) = 0 := by unfold ri_fa; rw [if_pos h]
      rw [e]
      exact h
    · have e : ri_fa x (y :: ys) = ri_fa x ys + 1 := by
        show (if x < y then 0 else ri_fa x ys + 1) = _
        rw [if_neg h]
      rw [e] at h0 ⊢
      rw [List.length_cons] at h0
      exact ih (by omega)
end
section
section
variable {f : Int32} {a1 a2 a3 a4 a5 a6 a7 a8 a9 : Nat → Int32} {w : Nat} {T : ri_T}
theorem ri_bw0 {post : Int32 → Prop} {u : St2} (hw : w < 2) (H : post 0) : wpX_badWord post u (nI w) := by
  obtain ⟨f, a1, a2, a3, a4, a5, a6, a7, a8, a9⟩ := u
  exact br_f (nI_pos (by omega)) (br_t (nI_le (b := 1) (by omega) (by decide)) H)
theorem ri_bw1 {post : Int32 → Prop} {u : St2} {p : Int32} (h0 : ¬ p = 0) (h1 : ¬ p = 1) (H : post 1) : wpX_badWord post u p := by
  obtain ⟨f, a1, a2, a3, a4, a5, a6, a7, a8, a9⟩ := u
  refine br_c (fun _ => H) (fun hn => br_c (fun hl => ?_) (fun _ => H))
  obtain ⟨j, hj, e⟩ := nI_of2 (M := 1) (n := 1) rfl hn hl
  match j, hj, e with
  | 0, _, e => exact absurd e h0
  | 1, _, e => exact absurd e h1
theorem ri_hook20 {post : Int32 → Prop} {c : Nat} (hw : w < 2) (hc : c < 7) (hT : ri_mt a3 a4 w T) : ∀ k q x, q + k = 7 → post (nI (x + ri_hk T c k q)) →
    wX_hook_20 post (nI w) (nI c) f a1 a2 a3 a4 a5 a6 a7 a8 a9 (k + 1) (nI x) (nI q) := by
  intro k
  induction k with
  | zero =>
    intro q x hq H
    exact pk_le 7 q (fun _ => H) (fun z => absurd z (by omega))
  | succ k ih =>
    intro q x hq H
    obtain ⟨h1, h2, _⟩ := hT.2 q (by omega)
    refine pk_le 7 q (fun z => absurd z (by omega)) (fun z => ⟨pk_in (7 * w + q) 14 (by omega) (ri_7 w q), ?_⟩)
    rw [ri_c7 w q (by omega), h2]
    rw [ri_hk] at H
    refine pk_le (ri_row T q).length c (fun z => nm_r (nI_1 q) (ih (q + 1) x (by omega) ?_)) (fun z => nm_r (nI_1 x) (nm_r (nI_1 q) (ih (q + 1) (x + 1) (by omega) ?_)))
    · rw [if_pos z, Nat.zero_add] at H
      exact H
    · rw [if_neg (by omega), ← Nat.add_assoc] at H
      exact H
theorem ri_hookL {post : Int32 → Prop} {r c : Nat} (hw : w < 2) (hr : r < 7) (hT : ri_mt a3 a4 w T) (hc : c < (ri_row T r).length) (H : post (nI ((ri_row T r).length - c + ri_hk T c (6 - r) (r + 1)))) :
    wpX_hook post (f, a1, a2, a3, a4, a5, a6, a7, a8, a9) (nI w) (nI r) (nI c) := by
  obtain ⟨h1, h2, _⟩ := hT.2 r hr
  unfold wpX_hook
  dsimp only
  refine ⟨pk_in (7 * w + r) 14 (by omega) (ri_7 w r), nm_r (e' := nI ((ri_row T r).length - c)) ?_ (nm_r (nI_1 r) ⟨6 - r + 1, ri_hook20 hw (by omega) hT (6 - r) (r + 1) _ (by omega) H⟩)⟩
  rw [ri_c7 w r (by omega), h2]
  exact pk_sub (by omega)
theorem ri_kin20 {post : Int32 → Prop} {A B : Nat} (hw : w < 2) (hT : ri_mt a3 a4 w T) (hA : A < 2 ^ 31) (hB0 : 0 < B) (hB : B < 2 ^ 31) (H : post (nI (A / B))) : ∀ k j a b t, j + k = 49 → ri_kin T k j a b t = (A, B) →
    wX_kin_20 post (nI w) f a1 a2 a3 a4 a5 a6 a7 a8 a9 (k + 1) (nI a) (nI b) (nI t) (nI j) := by
  intro k
  induction k with
  | zero =>
    intro j a b t hj e
    have e1 : a = A := congrArg Prod.fst e
    have e2 : b = B := congrArg Prod.snd e
    subst e1 e2
    refine pk_le 49 j (fun _ => ?_) (fun z => absurd z (by omega))
    refine pk_le b 0 (fun z => absurd z (by omega)) (fun _ => ⟨nI_ne0 hB0 hB, ?_⟩)
    rw [pk_div hA hB0 hB]
    exact H
  | succ k ih =>
    intro j a b t hj e
    obtain ⟨h1, h2, _⟩ := hT.2 (j / 7) (by omega)
    rw [ri_kin] at e
    refine pk_le 49 j (fun z => absurd z (by omega)) (fun _ => ⟨by decide, nm_r (e' := nI (j / 7)) (pk_div (d := 7) (by omega) (by decide) (by decide)) ⟨by decide, nm_r (e' := nI (j % 7)) (pk_rem (d := 7) (by omega) (by decide) (by decide)) ⟨pk_in (7 * w + j / 7) 14 (by omega) (ri_7 w (j / 7)), ?_⟩⟩⟩)
    rw [ri_c7 w (j / 7) (by omega), h2]
    refine pk_le (ri_row T (j / 7)).length (j % 7) (fun z => nm_r (nI_1 j) (ih (j + 1) a b t (by omega) ?_)) (fun z => nm_r (nI_1 t) (nm_r (pk_mul a (t + 1)) ?_))
    · rw [if_pos z] at e
      exact e
    · rw [if_neg (by omega)] at e
      exact ri_hookL hw (by omega) hT z (nm_r (pk_mul b _) (nm_r (nI_1 j) (ih (j + 1) _ _ _ (by omega) e)))
theorem ri_kinL {post : Int32 → Prop} {A B : Nat} (hw : w < 2) (hT : ri_mt a3 a4 w T) (e : ri_kin T 49 0 1 1 0 = (A, B)) (hA : A < 2 ^ 31) (hB0 : 0 < B) (hB : B < 2 ^ 31) (H : post (nI (A / B))) :
    wpX_kin post (f, a1, a2, a3, a4, a5, a6, a7, a8, a9) (nI w) := by
  unfold wpX_kin
  dsimp only
  exact ri_bw0 hw (br_t rfl ⟨50, ri_kin20 hw hT hA hB0 hB H 49 0 1 1 0 rfl e⟩)
theorem ri_code14 {post : Int32 → Prop} {N : Nat} (hw : w < 2) (hN : N ≤ 7) (h1 : a1 w = nI N) : ∀ (xs : List Nat) (i v : Nat), i + xs.length = N → (∀ j, j < xs.length → a2 (7 * w + (i + j)) = nI (xs.getD j 0)) → post (nI (ri_cd xs v)) →
    wX_code_14 post (nI w) f a1 a2 a3 a4 a5 a6 a7 a8 a9 (xs.length + 1) (nI v) (nI i) := by
  intro xs
  induction xs with
  | nil =>
    intro i v hi hx H
    have hi' : i = N := hi
    refine ⟨pk_in w 2 hw, ?_⟩
    rw [nI_clamp (show w < 2 ^ 31 by omega), h1]
    exact pk_le N i (fun _ => H) (fun z => absurd z (by omega))
  | cons x xs ih =>
    intro i v hi hx H
    rw [List.length_cons] at hi
    refine ⟨pk_in w 2 hw, ?_⟩
    rw [nI_clamp (show w < 2 ^ 31 by omega), h1]
    refine pk_le N i (fun z => absurd z (by omega)) (fun _ => ⟨pk_in (7 * w + i) 14 (by omega) (ri_7 w i), ?_⟩)
    have h0 : a2 (7 * w + i) = nI x := hx 0 (by rw [List.length_cons]; omega)
    rw [ri_c7 w i (by omega), h0]
    refine nm_r (e' := nI (8 * v + x)) ?_ (nm_r (nI_1 i) (ih (i + 1) (8 * v + x) (by omega) (fun j hj => ?_) H))
    · rw [show (8 : Int32) = nI 8 from rfl, pk_mul, nI_add]
    · have := hx (j + 1) (by rw [List.length_cons]; omega)
      rw [show i + 1 + j = i + (j + 1) by omega]
      exact this
theorem ri_codeL {post : Int32 → Prop} {W : List Nat} (hw : w < 2) (h : ri_pw a1 a2 a3 a4 w W T) (H : post (nI (ri_cd W 0))) :
    wpX_code post (f, a1, a2, a3, a4, a5, a6, a7, a8, a9) (nI w) := by
  obtain ⟨h1, h2, h3, _⟩ := h
  unfold wpX_code
  dsimp only
  exact ri_bw0 hw (br_t rfl ⟨W.length + 1, ri_code14 hw h1 h2 W 0 0 (by omega) (fun j hj => by rw [Nat.zero_add]; exact (h3 j hj).2) H⟩)
theorem ri_rising24 {post : Int32 → Prop} {K : Nat} (hw : w < 2) (hK : K ≤ 3) (hT : ri_mt a3 a4 w T) : ∀ k r x, r + k = K → post (nI (x + ri_sum T k r)) →
    wX_rising_24 post (nI w) (nI K) f a1 a2 a3 a4 a5 a6 a7 a8 a9 (k + 1) (nI x) (nI r) := by
  intro k
  induction k with
  | zero =>
    intro r x hr H
    exact pk_le K r (fun _ => H) (fun z => absurd z (by omega))
  | succ k ih =>
    intro r x hr H
    obtain ⟨h1, h2, _⟩ := hT.2 r (by omega)
    refine pk_le K r (fun z => absurd z (by omega)) (fun z => ⟨pk_in (7 * w + r) 14 (by omega) (ri_7 w r), ?_⟩)
    rw [ri_c7 w r (by omega), h2]
    rw [ri_sum, ← Nat.add_assoc] at H
    exact nm_r (nI_add x _) (nm_r (nI_1 r) (ih (r + 1) _ (by omega) H))
theorem ri_risingL {post : Int32 → Prop} {K : Nat} (hw : w < 2) (hK : K ≤ 3) (hT : ri_mt a3 a4 w T) (H : post (nI (ri_sum T K 0))) :
    wpX_rising post (f, a1, a2, a3, a4, a5, a6, a7, a8, a9) (nI w) (nI K) := by
  unfold wpX_rising
  dsimp only
  refine ri_bw0 hw (br_t rfl (br_f (nI_pos (by omega)) (br_t (nI_le (b := 3) hK (by decide)) ⟨K + 1, ri_rising24 hw hK hT K 0 0 (by omega) ?_⟩)))
  rw [Nat.zero_add]
  exact H
theorem ri_rising4 {post : Int32 → Prop} (hw : w < 2) (H : post (-1)) : wpX_rising post (f, a1, a2, a3, a4, a5, a6, a7, a8, a9) (nI w) 4 := by
  unfold wpX_rising
  dsimp only
  exact ri_bw0 hw (br_t rfl (br_f (by decide) (br_f (by decide) H)))
theorem ri_falling24 {post : Int32 → Prop} {K : Nat} (hw : w < 2) (hK : K ≤ 3) (hT : ri_mt a3 a4 w T) : ∀ k r x, r + k = 7 → post (nI (x + ri_sml T K k r)) →
    wX_falling_24 post (nI w) (nI K) f a1 a2 a3 a4 a5 a6 a7 a8 a9 (k + 1) (nI x) (nI r) := by
  intro k
  induction k with
  | zero =>
    intro r x hr H
    exact pk_le 7 r (fun _ => H) (fun z => absurd z (by omega))
  | succ k ih =>
    intro r x hr H
    obtain ⟨h1, h2, _⟩ := hT.2 r (by omega)
    refine pk_le 7 r (fun z => absurd z (by omega)) (fun z => ⟨pk_in (7 * w + r) 14 (by omega) (ri_7 w r), ?_⟩)
    rw [ri_c7 w r (by omega), h2]
    rw [ri_sml, ← Nat.add_assoc] at H
    refine nm_e (pk_le K (ri_row T r).length (fun z => ?_) (fun z => ?_))
    · rw [if_pos z] at H
      exact nm_r (nI_add x _) (nm_r (nI_1 r) (ih (r + 1) _ (by omega) H))
    · rw [if_neg (by omega)] at H
      exact nm_r (nI_add x _) (nm_r (nI_1 r) (ih (r + 1) _ (by omega) H))
theorem ri_fallingL {post : Int32 → Prop} {K : Nat} (hw : w < 2) (hK : K ≤ 3) (hT : ri_mt a3 a4 w T) (H : post (nI (ri_sml T K 7 0))) :
    wpX_falling post (f, a1, a2, a3, a4, a5, a6, a7, a8, a9) (nI w) (nI K) := by
  unfold wpX_falling
  dsimp only
  refine ri_bw0 hw (br_t rfl (br_f (nI_pos (by omega)) (br_t (nI_le (b := 3) hK (by decide)) ⟨8, ri_falling24 hw hK hT 7 0 0 (by omega) ?_⟩)))
  rw [Nat.zero_add]
  exact H
theorem ri_falling4 {post : Int32 → Prop} (hw : w < 2) (H : post (-1)) : wpX_falling post (f, a1, a2, a3, a4, a5, a6, a7, a8, a9) (nI w) 4 := by
  unfold wpX_falling
  dsimp only
  exact ri_bw0 hw (br_t rfl (br_f (by decide) (br_f (by decide) H)))
/-! related: word 0 is empty -/
theorem ri_rel40 {post : Int32 → Prop} {J : Int32 → Int32 → Prop} {r : Nat} {x : Int32} (hr : r < 7) (h0 : a4 r = 0) (H : J x (nI (r + 1))) :
    ∃ n, wX_related_40 post J (nI r) f a1 a2 a3 a4 a5 a6 a7 a8 a9 n x 0 := by
  refine ⟨1, pk_in r 14 (by omega), ?_⟩
  rw [nI_clamp (show r < 2 ^ 31 by omega), h0]
  exact br_t (by decide) (nm_r (nI_1 r) H)
theorem ri_rel0 {post : Int32 → Prop} (h0 : ∀ r, r < 7 → a4 r = 0) (H : post 0) : ∀ k r, r + k = 7 → wX_related_4 post f a1 a2 a3 a4 a5 a6 a7 a8 a9 (k + 1) 0 (nI r) := by
  intro k
  induction k with
  | zero => exact fun r hr => pk_le 7 r (fun _ => br_t rfl H) (fun z => absurd z (by omega))
  | succ k ih => exact fun r hr => pk_le 7 r (fun z => absurd z (by omega)) (fun _ => br_t rfl (ri_rel40 (by omega) (h0 r (by omega)) (ih (r + 1) (by omega))))
theorem ri_rel1 {post : Int32 → Prop} (h0 : ∀ r, r < 7 → a4 r = 0) (h1 : ∀ r, r < 7 → a4 (7 + r) = 0) (H : post 1) : ∀ k r, r + k = 7 → wX_related_4 post f a1 a2 a3 a4 a5 a6 a7 a8 a9 (k + 1) 1 (nI r) := by
  intro k
  induction k with
  | zero => exact fun r hr => pk_le 7 r (fun _ => br_f (by decide) H) (fun z => absurd z (by omega))
  | succ k ih =>
    intro r hr
    refine pk_le 7 r (fun z => absurd z (by omega)) (fun _ => br_f (by decide) ⟨pk_in r 14 (by omega), pk_in (7 + r) 14 (by omega) (nI_add 7 r), ?_⟩)
    rw [nI_clamp (show r < 2 ^ 31 by omega), show (7 : Int32) + nI r = nI (7 + r) from nI_add 7 r, nI_clamp (show 7 + r < 2 ^ 31 by omega), h0 r (by omega), h1 r (by omega)]
    exact br_t rfl (ri_rel40 (by omega) (h0 r (by omega)) (ih (r + 1) (by omega)))
theorem ri_relatedE {post : Int32 → Prop} (h0 : ∀ r, r < 7 → a4 r = 0) (h1 : ∀ r, r < 7 → a4 (7 + r) = 0) (H : post 1) : wpX_related post (f, a1, a2, a3, a4, a5, a6, a7, a8, a9) := by
  unfold wpX_related
  dsimp only
  exact ⟨8, ri_rel1 h0 h1 H 7 0 rfl⟩
theorem ri_relatedN {post : Int32 → Prop} (h0 : ∀ r, r < 7 → a4 r = 0) (h1 : ¬ a4 7 = 0) (H : post 0) : wpX_related post (f, a1, a2, a3, a4, a5, a6, a7, a8, a9) := by
  unfold wpX_related
  dsimp only
  refine ⟨8, br_f (by decide) (br_f (by decide) ⟨pk_in 0 14 (by decide), pk_in 7 14 (by decide), br_f ?_ (ri_rel40 (r := 0) (by decide) (h0 0 (by decide)) (ri_rel0 h0 H 6 1 rfl))⟩)⟩
  intro z
  have z' : a4 0 = a4 7 := z
  rw [h0 0 (by decide)] at z'
  exact h1 z'.symm
theorem ri_letter0 {post : Int32 → Prop} (hw : w < 2) (h : a1 w = 0) (H : post (-4)) : wpX_letter post (f, a1, a2, a3, a4, a5, a6, a7, a8, a9) (nI w) 0 := by
  unfold wpX_letter
  dsimp only
  refine ri_bw0 hw (br_t rfl (br_f (by decide) ⟨pk_in w 2 hw, ?_⟩))
  rw [nI_clamp (show w < 2 ^ 31 by omega), h]
  exact br_f (by decide) H
theorem ri_letter1 {post : Int32 → Prop} {x : Int32} (hw : w < 2) (h : a1 w = 1) (hx : a2 (7 * w) = x) (H : post x) : wpX_letter post (f, a1, a2, a3, a4, a5, a6, a7, a8, a9) (nI w) 0 := by
  unfold wpX_letter
  dsimp only
  refine ri_bw0 hw (br_t rfl (br_f (by decide) ⟨pk_in w 2 hw, ?_⟩))
  rw [nI_clamp (show w < 2 ^ 31 by omega), h]
  refine br_t (by decide) ⟨pk_in (7 * w + 0) 14 (by omega) (ri_7 w 0), ?_⟩
  rw [← nI_0, ri_c7 w 0 (by omega), Nat.add_zero, hx]
  exact H
/-! descents -/
theorem ri_desL {post : Int32 → Prop} {A B C : Int32} (h1 : a1 1 = 3) (hA : a2 7 = A) (hB : a2 8 = B) (hC : a2 9 = C) (H : post ((if A ≤ B then 0 else 1) + (if B ≤ C then 0 else 1))) :
    wpX_descents post (f, a1, a2, a3, a4, a5, a6, a7, a8, a9) 1 := by
  unfold wpX_descents
  dsimp only
  subst hA hB hC
  refine ri_bw0 (w := 1) (by decide) (br_t rfl ⟨3, pk_in 1 2 (by decide), br_f (by rw [show (1 : Int32).toNatClampNeg = 1 from rfl, h1]; decide) ⟨pk_in 7 14 (by decide), pk_in 8 14 (by decide), ?_⟩⟩)
  have key : ∀ x : Int32, post (x + (if a2 8 ≤ a2 9 then 0 else 1)) → wX_descents_14 post 1 f a1 a2 a3 a4 a5 a6 a7 a8 a9 2 x 1 := by
    intro x hx
    refine ⟨pk_in 1 2 (by decide), br_f (by rw [show (1 : Int32).toNatClampNeg = 1 from rfl, h1]; decide) ⟨pk_in 8 14 (by decide), pk_in 9 14 (by decide), br_c (fun z => ?_) (fun z => ?_)⟩⟩
    · have z' : a2 8 ≤ a2 9 := z
      rw [if_pos z'] at hx
      refine nm_r (e' := 2) (by decide) ⟨pk_in 1 2 (by decide), br_t (by rw [show (1 : Int32).toNatClampNeg = 1 from rfl, h1]; decide) ?_⟩
      rw [show x + 0 = x by simp] at hx
      exact hx
    · have z' : ¬ a2 8 ≤ a2 9 := z
      rw [if_neg z'] at hx
      exact nm_e (nm_r (e' := 2) (by decide) ⟨pk_in 1 2 (by decide), br_t (by rw [show (1 : Int32).toNatClampNeg = 1 from rfl, h1]; decide) hx⟩)
  refine br_c (fun z => ?_) (fun z => ?_)
  · have z' : a2 7 ≤ a2 8 := z
    rw [if_pos z'] at H
    exact nm_r (e' := 1) (by decide) (key 0 H)
  · have z' : ¬ a2 7 ≤ a2 8 := z
    rw [if_neg z'] at H
    exact nm_r (e' := 1) (by decide) (nm_r (e' := 1) (by decide) (key 1 H))
/-! pairs and moves -/
theorem ri_np0 {post : Int32 → Prop} {p : Int32} (hw : w < 2) (h : a1 w = 0) (H : post 1) : wpX_noPair post (f, a1, a2, a3, a4, a5, a6, a7, a8, a9) (nI w) p := by
  unfold wpX_noPair
  dsimp only
  refine br_c (fun _ => H) (fun z => ⟨pk_in w 2 hw, ?_⟩)
  rw [nI_clamp (show w < 2 ^ 31 by omega), h]
  refine br_f (fun z2 => z ?_) H
  rw [Int32.lt_iff_toInt_lt] at z2 ⊢
  have e1 : ((0 : Int32) - 1).toInt = -1 := by decide
  have e2 : (0 : Int32).toInt = 0 := by decide
  omega
theorem ri_np3 {post : Int32 → Prop} {i : Nat} (h : a1 1 = 3) (hi : i < 2) (H : post 0) : wpX_noPair post (f, a1, a2, a3, a4, a5, a6, a7, a8, a9) 1 (nI i) := by
  unfold wpX_noPair
  dsimp only
  refine br_f (nI_pos (by omega)) ⟨pk_in 1 2 (by decide), ?_⟩
  rw [show (1 : Int32).toNatClampNeg = 1 from rfl, h]
  exact br_t (nI_lt (b := 2) hi (by decide)) H
theorem ri_np3n {post : Int32 → Prop} {p : Int32} (h : a1 1 = 3) (h0 : ¬ p = 0) (h1 : ¬ p = 1) (H : post 1) : wpX_noPair post (f, a1, a2, a3, a4, a5, a6, a7, a8, a9) 1 p := by
  unfold wpX_noPair
  dsimp only
  refine br_c (fun _ => H) (fun z => ⟨pk_in 1 2 (by decide), ?_⟩)
  rw [show (1 : Int32).toNatClampNeg = 1 from rfl, h]
  refine br_f (fun z2 => ?_) H
  obtain ⟨j, hj, e⟩ := nI_of z
  rw [e, show ((3 : Int32) - 1) = nI 2 from by decide, nI_ltI hj (by decide)] at z2
  match j, z2, e with
  | 0, _, e => exact absurd e h0
  | 1, _, e => exact absurd e h1
end
/-- what a move's test answers: x and z of the pair, before, behind -/
def ri_t159 (x z p q : Int32) : Int32 := if z ≤ x then 0 else if p = 0 then (if q = 0 then 0 else 1) else 1
def ri_lo (A B : Int32) : Int32 := if B ≤ A then B else A
def ri_hi (A B : Int32) : Int32 := if B ≤ A then A else B
def ri_m0 (A B C : Int32) : Int32 := ri_t159 (ri_lo A B) (ri_hi A B) 0 (if C < ri_lo A B then 0 else if ri_hi A B ≤ C then 0 else 1)
def ri_m1 (A B C : Int32) : Int32 := ri_t159 (ri_lo B C) (ri_hi B C) (if A ≤ ri_lo B C then 0 else if ri_hi B C < A then 0 else 1) 0
section
variable {f : Int32} {a1 a2 a3 a4 a5 a6 a7 a8 a9 : Nat → Int32} {post : Int32 → Prop}
theorem ri_159 {x z p q : Int32} (H : post (ri_t159 x z p q)) : wX_mayMove_159 post x z p q f a1 a2 a3 a4 a5 a6 a7 a8 a9 := by
  unfold ri_t159 at H
  refine br_c (fun h => ?_) (fun h => ?_)
  · rw [if_pos h] at H
    exact H
  · rw [if_neg h] at H
    refine br_c (fun h => ?_) (fun h => ?_)
    · rw [if_pos h] at H
      refine br_c (fun h => ?_) (fun h => ?_)
      · rw [if_pos h] at H
        exact H
      · rw [if_neg h] at H
        exact H
    · rw [if_neg h] at H
      exact H
theorem ri_may0 {A B C : Int32} (h1 : a1 1 = 3) (hA : a2 7 = A) (hB : a2 8 = B) (hC : a2 9 = C) (H : post (ri_m0 A B C)) : wpX_mayMove post (f, a1, a2, a3, a4, a5, a6, a7, a8, a9) 1 0 := by
  subst hA hB hC
  unfold ri_m0 at H
  have k114 : ∀ x z : Int32, post (ri_t159 x z 0 (if a2 9 < x then 0 else if z ≤ a2 9 then 0 else 1)) → wX_mayMove_114 post 1 0 7 x z 0 f a1 a2 a3 a4 a5 a6 a7 a8 a9 := by
    intro x z H
    refine ⟨pk_in 1 2 (by decide), br_f (by rw [show (1 : Int32).toNatClampNeg = 1 from rfl, h1]; decide) ⟨pk_in 9 14 (by decide), br_c (fun (c : a2 9 < x) => ?_) (fun (c : ¬ a2 9 < x) => ⟨pk_in 9 14 (by decide), br_c (fun (d : z ≤ a2 9) => ?_) (fun (d : ¬ z ≤ a2 9) => ?_)⟩)⟩⟩
    · rw [if_pos c] at H
      exact ri_159 H
    · rw [if_neg c, if_pos d] at H
      exact ri_159 H
    · rw [if_neg c, if_neg d] at H
      exact ri_159 H
  have k77 : ∀ x z : Int32, post (ri_t159 x z 0 (if a2 9 < x then 0 else if z ≤ a2 9 then 0 else 1)) → wX_mayMove_77 post 1 0 7 x z f a1 a2 a3 a4 a5 a6 a7 a8 a9 :=
    fun x z H => br_t (by decide) (k114 x z H)
  have k41 : ∀ x : Int32, post (ri_t159 x (ri_hi (a2 7) (a2 8)) 0 (if a2 9 < x then 0 else if ri_hi (a2 7) (a2 8) ≤ a2 9 then 0 else 1)) → wX_mayMove_41 post 1 0 7 x f a1 a2 a3 a4 a5 a6 a7 a8 a9 := by
    intro x H
    unfold ri_hi at H
    refine ⟨pk_in 7 14 (by decide), pk_in 8 14 (by decide), br_c (fun (c : a2 8 ≤ a2 7) => ⟨pk_in 7 14 (by decide), ?_⟩) (fun (c : ¬ a2 8 ≤ a2 7) => ⟨pk_in 8 14 (by decide), ?_⟩)⟩
    · rw [if_pos c] at H
      exact k77 x (a2 7) H
    · rw [if_neg c] at H
      exact k77 x (a2 8) H
  unfold wpX_mayMove
  dsimp only
  refine nm_r (e' := 7) (by decide) ⟨pk_in 7 14 (by decide), pk_in 8 14 (by decide), br_c (fun (c : a2 8 ≤ a2 7) => ⟨pk_in 8 14 (by decide), ?_⟩) (fun (c : ¬ a2 8 ≤ a2 7) => ⟨pk_in 7 14 (by decide), ?_⟩)⟩
  · rw [show ri_lo (a2 7) (a2 8) = a2 8 from if_pos c] at H
    exact k41 (a2 8) H
  · rw [show ri_lo (a2 7) (a2 8) = a2 7 from if_neg c] at H
    exact k41 (a2 7) H
theorem ri_may1 {A B C : Int32} (h1 : a1 1 = 3) (hA : a2 7 = A) (hB : a2 8 = B) (hC : a2 9 = C) (H : post (ri_m1 A B C)) : wpX_mayMove post (f, a1, a2, a3, a4, a5, a6, a7, a8, a9) 1 1 := by
  subst hA hB hC
  unfold ri_m1 at H
  have k114 : ∀ x z p : Int32, post (ri_t159 x z p 0) → wX_mayMove_114 post 1 1 8 x z p f a1 a2 a3 a4 a5 a6 a7 a8 a9 := by
    intro x z p H
    exact ⟨pk_in 1 2 (by decide), br_t (by rw [show (1 : Int32).toNatClampNeg = 1 from rfl, h1]; decide) (ri_159 H)⟩
  have k77 : ∀ x z : Int32, post (ri_t159 x z (if a2 7 ≤ x then 0 else if z < a2 7 then 0 else 1) 0) → wX_mayMove_77 post 1 1 8 x z f a1 a2 a3 a4 a5 a6 a7 a8 a9 := by
    intro x z H
    refine br_f (by decide) ⟨pk_in 7 14 (by decide), br_c (fun (c : a2 7 ≤ x) => ?_) (fun (c : ¬ a2 7 ≤ x) => ⟨pk_in 7 14 (by decide), br_c (fun (d : z < a2 7) => ?_) (fun (d : ¬ z < a2 7) => ?_)⟩)⟩
    · rw [if_pos c] at H
      exact k114 x z 0 H
    · rw [if_neg c, if_pos d] at H
      exact k114 x z 0 H
    · rw [if_neg c, if_neg d] at H
      exact k114 x z 1 H
  have k41 : ∀ x : Int32, post (ri_t159 x (ri_hi (a2 8) (a2 9)) (if a2 7 ≤ x then 0 else if ri_hi (a2 8) (a2 9) < a2 7 then 0 else 1) 0) → wX_mayMove_41 post 1 1 8 x f a1 a2 a3 a4 a5 a6 a7 a8 a9 := by
    intro x H
    unfold ri_hi at H
    refine ⟨pk_in 8 14 (by decide), pk_in 9 14 (by decide), br_c (fun (c : a2 9 ≤ a2 8) => ⟨pk_in 8 14 (by decide), ?_⟩) (fun (c : ¬ a2 9 ≤ a2 8) => ⟨pk_in 9 14 (by decide), ?_⟩)⟩
    · rw [if_pos c] at H
      exact k77 x (a2 8) H
    · rw [if_neg c] at H
      exact k77 x (a2 9) H
  unfold wpX_mayMove
  dsimp only
  refine nm_r (e' := 8) (by decide) ⟨pk_in 8 14 (by decide), pk_in 9 14 (by decide), br_c (fun (c : a2 9 ≤ a2 8) => ⟨pk_in 9 14 (by decide), ?_⟩) (fun (c : ¬ a2 9 ≤ a2 8) => ⟨pk_in 8 14 (by decide), ?_⟩)⟩
  · rw [show ri_lo (a2 8) (a2 9) = a2 9 from if_pos c] at H
    exact k41 (a2 9) H
  · rw [show ri_lo (a2 8) (a2 9) = a2 8 from if_neg c] at H
    exact k41 (a2 8) H
end
end
section
section
variable {f : Int32} {a1 a2 a5 a6 a7 a8 a9 : Nat → Int32} {w : Nat}
theorem ri_fa3 {post : Int32 → Prop} {a3 a4 : Nat → Int32} {T : ri_T} {r x : Nat} (hw : w < 2) (hr : r < 7) (hT : ri_mt a3 a4 w T) (hx : x ≤ 7) (H : post (nI (ri_fa x (ri_row T r)))) :
    wpX_firstAbove post (f, a1, a2, a3, a4, a5, a6, a7, a8, a9) (nI w) (nI r) (nI x) := by
  obtain ⟨h1, h2, h3⟩ := hT.2 r hr
  have hl := ri_fa_le x (ri_row T r)
  unfold wpX_firstAbove
  dsimp only
  refine pk_loop (σ := Unit) (fun n i _ => wX_firstAbove_3 post (nI w) (nI r) (nI x) f a1 a2 a3 a4 a5 a6 a7 a8 a9 n (nI i)) (fun _ _ => True) (ri_fa x (ri_row T r)) 0 () (by omega) trivial ?_ ?_
  · intro n _ _
    refine ⟨pk_in (7 * w + r) 14 (by omega) (ri_7 w r), ?_⟩
    rw [ri_c7 w r (by omega), h2]
    refine pk_le (ri_row T r).length (ri_fa x (ri_row T r)) (fun _ => H) (fun z => ⟨pk_in (49 * w + 7 * r + ri_fa x (ri_row T r)) 98 (by omega) (ri_49c w r _), ?_⟩)
    obtain ⟨k1, k2⟩ := h3 _ z
    have k3 := ri_fa_hi x _ z
    rw [ri_c49c w r _ (by omega), k2]
    exact pk_lt x ((ri_row T r).getD (ri_fa x (ri_row T r)) 0) (fun _ => H) (fun z2 => absurd z2 (by omega))
  · intro n i _ hi _ hk
    refine ⟨pk_in (7 * w + r) 14 (by omega) (ri_7 w r), ?_⟩
    rw [ri_c7 w r (by omega), h2]
    refine pk_le (ri_row T r).length i (fun z => absurd z (by omega)) (fun z => ⟨pk_in (49 * w + 7 * r + i) 98 (by omega) (ri_49c w r _), ?_⟩)
    obtain ⟨k1, k2⟩ := h3 _ z
    have k3 := ri_fa_lo x _ i hi
    rw [ri_c49c w r _ (by omega), k2]
    exact pk_lt x ((ri_row T r).getD i 0) (fun z2 => absurd z2 (by omega)) (fun _ => nm_r (nI_1 i) (hk () trivial))
theorem ri_ins8 {post : Int32 → St2 → Prop} {A3 A4 : Nat → Int32} {T' : ri_T} (hw : w < 2)
    (H : ∀ rr b3 b4, ri_mt b3 b4 w T' → (∀ j, (j < 49 * w ∨ 49 * w + 49 ≤ j) → b3 j = A3 j) → (∀ j, (j < 7 * w ∨ 7 * w + 7 ≤ j) → b4 j = A4 j) → post rr (f, a1, a2, b3, b4, a5, a6, a7, a8, a9)) :
    ∀ k r T x a3 a4, ri_mt a3 a4 w T → (∀ j, (j < 49 * w ∨ 49 * w + 49 ≤ j) → a3 j = A3 j) → (∀ j, (j < 7 * w ∨ 7 * w + 7 ≤ j) → a4 j = A4 j) → x ≤ 7 → ri_ins k r T x = some T' →
    wX_insert_8 post (nI w) f (k + 1) (nI x) (nI r) 1 a1 a2 a3 a4 a5 a6 a7 a8 a9 := by
  intro k
  induction k with
  | zero => intro r T x a3 a4 hT f3 f4 hx e; exact absurd e (fun z => by rw [ri_ins] at z; cases z)
  | succ k ih =>
    intro r T x a3 a4 hT f3 f4 hx e
    rw [ri_ins] at e
    by_cases hr : r < 7
    · rw [if_pos hr] at e
      obtain ⟨h1, h2, h3⟩ := hT.2 r hr
      have hl := ri_fa_le x (ri_row T r)
      refine br_f (by decide) (pk_le 7 r (fun z => absurd z (by omega)) (fun _ => ri_fa3 hw hr hT hx (nm_r (ri_49c w r _) ⟨pk_in (7 * w + r) 14 (by omega) (ri_7 w r), ?_⟩)))
      rw [ri_c7 w r (by omega), h2]
      by_cases hf : ri_fa x (ri_row T r) = (ri_row T r).length
      · rw [if_pos hf] at e
        by_cases h7 : (ri_row T r).length < 7
        · rw [if_pos h7] at e
          have e' := Option.some.inj e
          have hm := ri_mt_app hT hr h7 hx
          rw [e'] at hm
          refine br_t (by rw [hf]) ⟨pk_in (49 * w + 7 * r + ri_fa x (ri_row T r)) 98 (by omega), nm_r (e' := upd a3 (49 * w + 7 * r + (ri_row T r).length) (nI x)) ?_ ⟨pk_in (7 * w + r) 14 (by omega) (ri_7 w r), pk_in (7 * w + r) 14 (by omega) (ri_7 w r), nm_r (e' := upd a4 (7 * w + r) (nI ((ri_row T r).length + 1))) ?_ (br_t rfl (H _ _ _ hm ?_ ?_))⟩⟩
          · rw [nI_clamp (show 49 * w + 7 * r + ri_fa x (ri_row T r) < 2 ^ 31 by omega), hf, ri_b x (by omega)]
          · rw [nI_1, ri_b _ (by omega)]
          · intro j hj
            rw [pk_un (by omega)]
            exact f3 j hj
          · intro j hj
            rw [pk_un (by omega)]
            exact f4 j hj
        · rw [if_neg h7] at e
          cases e
      · rw [if_neg hf] at e
        have hlt : ri_fa x (ri_row T r) < (ri_row T r).length := by omega
        obtain ⟨k1, k2⟩ := h3 _ hlt
        refine br_f (fun z => hf ?_) ⟨pk_in (49 * w + 7 * r + ri_fa x (ri_row T r)) 98 (by omega), nm_r (e' := nI ((ri_row T r).getD (ri_fa x (ri_row T r)) 0)) ?_ ⟨pk_in (49 * w + 7 * r + ri_fa x (ri_row T r)) 98 (by omega), nm_r (e' := upd a3 (49 * w + 7 * r + ri_fa x (ri_row T r)) (nI x)) ?_ (nm_r (nI_1 r) (ih _ _ _ _ _ (ri_mt_set hT hr hlt hx) ?_ f4 k1 e))⟩⟩
        · exact (nI_eq (by omega) (by omega)).mp z
        · rw [nI_clamp (show 49 * w + 7 * r + ri_fa x (ri_row T r) < 2 ^ 31 by omega), k2]
        · rw [nI_clamp (show 49 * w + 7 * r + ri_fa x (ri_row T r) < 2 ^ 31 by omega), ri_b x (by omega)]
        · intro j hj
          rw [pk_un (by omega)]
          exact f3 j hj
    · rw [if_neg hr] at e
      cases e
theorem ri_insL {post : Int32 → St2 → Prop} {a3 a4 : Nat → Int32} {T T' : ri_T} {x : Nat} (hw : w < 2) (hT : ri_mt a3 a4 w T) (hx : x ≤ 7) (e : ri_ins 7 0 T x = some T')
    (H : ∀ rr b3 b4, ri_mt b3 b4 w T' → (∀ j, (j < 49 * w ∨ 49 * w + 49 ≤ j) → b3 j = a3 j) → (∀ j, (j < 7 * w ∨ 7 * w + 7 ≤ j) → b4 j = a4 j) → post rr (f, a1, a2, b3, b4, a5, a6, a7, a8, a9)) :
    wpX_insert post (f, a1, a2, a3, a4, a5, a6, a7, a8, a9) (nI w) (nI x) := by
  unfold wpX_insert
  dsimp only
  exact ⟨8, ri_ins8 hw H 7 0 T x a3 a4 hT (fun j _ => rfl) (fun j _ => rfl) hx e⟩
theorem ri_reb28 {post : St2 → Prop} {A3 A4 : Nat → Int32} {T' : ri_T} {N : Nat} (hw : w < 2) (hN : N ≤ 7)
    (H : ∀ b3 b4, ri_mt b3 b4 w T' → (∀ j, (j < 49 * w ∨ 49 * w + 49 ≤ j) → b3 j = A3 j) → (∀ j, (j < 7 * w ∨ 7 * w + 7 ≤ j) → b4 j = A4 j) → post (f, a1, a2, b3, b4, a5, a6, a7, a8, a9)) :
    ∀ (xs : List Nat) (i : Nat) (T : ri_T) (a3 a4 : Nat → Int32), ri_mt a3 a4 w T → (∀ j, (j < 49 * w ∨ 49 * w + 49 ≤ j) → a3 j = A3 j) → (∀ j, (j < 7 * w ∨ 7 * w + 7 ≤ j) → a4 j = A4 j) → i + xs.length = N →
    (∀ j, j < xs.length → (xs.getD j 0 ≤ 7 ∧ a2 (7 * w + (i + j)) = nI (xs.getD j 0))) → ri_tb xs T = some T' →
    wX_rebuild_28 post (nI w) (nI N) (xs.length + 1) (nI i) f a1 a2 a3 a4 a5 a6 a7 a8 a9 := by
  intro xs
  induction xs with
  | nil =>
    intro i T a3 a4 hT f3 f4 hi hx e
    have hi' : i = N := hi
    have e' : T = T' := Option.some.inj e
    rw [e'] at hT
    exact pk_le N i (fun _ => H _ _ hT f3 f4) (fun z => absurd z (by omega))
  | cons x xs ih =>
    intro i T a3 a4 hT f3 f4 hi hx e
    rw [List.length_cons] at hi
    refine pk_le N i (fun z => absurd z (by omega)) (fun _ => ⟨pk_in (7 * w + i) 14 (by omega) (ri_7 w i), ?_⟩)
    have h0 : x ≤ 7 ∧ a2 (7 * w + i) = nI x := hx 0 (by rw [List.length_cons]; omega)
    rw [ri_c7 w i (by omega), h0.2]
    rw [ri_tb] at e
    cases hU : ri_ins 7 0 T x with
    | none => rw [hU] at e; cases e
    | some U =>
      rw [hU] at e
      refine ri_insL hw hT h0.1 hU (fun rr b3 b4 m g3 g4 => nm_r (nI_1 i) (ih (i + 1) U b3 b4 m (fun j hj => ?_) (fun j hj => ?_) (by omega) (fun j hj => ?_) e))
      · rw [g3 j hj]
        exact f3 j hj
      · rw [g4 j hj]
        exact f4 j hj
      · have := hx (j + 1) (by rw [List.length_cons]; omega)
        rw [show i + 1 + j = i + (j + 1) by omega]
        exact this
theorem ri_rebL {post : St2 → Prop} {a3 a4 : Nat → Int32} {T' : ri_T} {N : Nat} {xs : List Nat} (hw : w < 2) (hN : N ≤ 7) (hl : xs.length = N)
    (hx : ∀ j, j < xs.length → (xs.getD j 0 ≤ 7 ∧ a2 (7 * w + j) = nI (xs.getD j 0))) (e : ri_tb xs ri_E0 = some T')
    (H : ∀ b3 b4, ri_mt b3 b4 w T' → (∀ j, (j < 49 * w ∨ 49 * w + 49 ≤ j) → b3 j = a3 j) → (∀ j, (j < 7 * w ∨ 7 * w + 7 ≤ j) → b4 j = a4 j) → post (f, a1, a2, b3, b4, a5, a6, a7, a8, a9)) :
    wpX_rebuild post (f, a1, a2, a3, a4, a5, a6, a7, a8, a9) (nI w) (nI N) := by
  unfold wpX_rebuild
  dsimp only
  refine pk_loop (fun n i s => wX_rebuild_2 post (nI w) (nI N) f n (nI i) a1 a2 a3 s a5 a6 a7 a8 a9) (fun i s => (∀ j, j < i → s (7 * w + j) = 0) ∧ (∀ j, (j < 7 * w ∨ 7 * w + 7 ≤ j) → s j = a4 j)) 7 0 a4 (by omega) ⟨fun j hj => absurd hj (Nat.not_lt_zero j), fun j _ => rfl⟩ ?_ ?_
  · intro n s hs
    exact pk_le 7 7 (fun _ => ⟨xs.length + 1, ri_reb28 hw hN H xs 0 ri_E0 a3 s (ri_mt_0 hs.1) (fun j _ => rfl) hs.2 (by omega) (fun j hj => by rw [Nat.zero_add]; exact hx j hj) e⟩) (fun z => absurd z (by omega))
  · intro n i s hi hs hk
    refine pk_le 7 i (fun z => absurd z (by omega)) (fun _ => ⟨pk_in (7 * w + i) 14 (by omega) (ri_7 w i), nm_r (e' := upd s (7 * w + i) 0) ?_ (nm_r (nI_1 i) (hk _ ⟨fun j hj => ?_, fun j hj => ?_⟩))⟩)
    · rw [ri_c7 w i (by omega)]
    · by_cases ej : j = i
      · rw [ej]
        exact pk_us
      · rw [pk_un (by omega)]
        exact hs.1 j (by omega)
    · rw [pk_un (by omega)]
      exact hs.2 j hj
end
section
variable {f : Int32} {a1 a2 a3 a4 a5 a6 a7 a8 a9 : Nat → Int32} {w : Nat}
theorem ri_addL {post : Int32 → St2 → Prop} {W : List Nat} {T T' : ri_T} {x : Nat} (hw : w < 2) (h : ri_pw a1 a2 a3 a4 w W T) (hW : W.length < 7) (hx1 : 1 ≤ x) (hx7 : x ≤ 7) (e : ri_ins 7 0 T x = some T')
    (H : ∀ b1 b2 b3 b4, ri_pw b1 b2 b3 b4 w (W ++ [x]) T' → ri_fr w a1 a2 a3 a4 b1 b2 b3 b4 → post (nI (W.length + 1)) (f, b1, b2, b3, b4, a5, a6, a7, a8, a9)) :
    wpX_add post (f, a1, a2, a3, a4, a5, a6, a7, a8, a9) (nI w) (nI x) := by
  obtain ⟨h1, h2, h3, h4⟩ := h
  unfold wpX_add
  dsimp only
  refine ri_bw0 hw (br_t rfl (br_f (nI_nlt (b := 1) hx1 (by omega)) (br_t (nI_le (b := 7) hx7 (by decide)) ⟨pk_in w 2 hw, ?_⟩)))
  rw [nI_clamp (show w < 2 ^ 31 by omega), h2]
  refine pk_eq W.length 7 (fun z => absurd z (by omega)) (fun _ => ⟨pk_in w 2 hw, pk_in (7 * w + W.length) 14 (by omega) (ri_7 w _), nm_r (e' := upd a2 (7 * w + W.length) (nI x)) ?_ ⟨pk_in w 2 hw, pk_in w 2 hw, nm_r (e' := upd a1 w (nI (W.length + 1))) ?_ (ri_insL hw h4 hx7 e (fun rr b3 b4 m g3 g4 => ⟨pk_in w 2 hw, ?_⟩))⟩⟩)
  · rw [ri_c7 w _ (by omega), ri_b x (by omega)]
  · rw [nI_1, ri_b _ (by omega)]
  · have el : (W ++ [x]).length = W.length + 1 := by rw [List.length_append]; rfl
    dsimp only
    rw [show upd a1 w (nI (W.length + 1)) w = nI (W.length + 1) from pk_us]
    refine H _ _ b3 b4 ⟨by omega, by rw [el]; exact pk_us, fun i hi => ?_, m⟩ ⟨fun j hj => pk_un hj, fun j hj => pk_un (by omega), g3, g4⟩
    rw [el] at hi
    rw [ri_gapp hi]
    by_cases ei : i = W.length
    · rw [if_pos ei, ei]
      exact ⟨hx7, pk_us⟩
    · rw [if_neg ei, pk_un (by omega)]
      exact h3 i (by omega)
theorem ri_drop0 {post : Int32 → St2 → Prop} (hw : w < 2) (h : a1 w = 0) (H : post (-4) (f, a1, a2, a3, a4, a5, a6, a7, a8, a9)) :
    wpX_drop post (f, a1, a2, a3, a4, a5, a6, a7, a8, a9) (nI w) := by
  unfold wpX_drop
  dsimp only
  refine ri_bw0 hw (br_t rfl ⟨pk_in w 2 hw, ?_⟩)
  rw [nI_clamp (show w < 2 ^ 31 by omega), h]
  exact br_t rfl H
theorem ri_drop1 {post : Int32 → St2 → Prop} {x : Nat} {T : ri_T} (hw : w < 2) (h : ri_pw a1 a2 a3 a4 w [x] T)
    (H : ∀ b1 b3 b4, ri_pw b1 a2 b3 b4 w [] ri_E0 → ri_fr w a1 a2 a3 a4 b1 a2 b3 b4 → post (nI x) (f, b1, a2, b3, b4, a5, a6, a7, a8, a9)) :
    wpX_drop post (f, a1, a2, a3, a4, a5, a6, a7, a8, a9) (nI w) := by
  obtain ⟨h1, h2, h3, h4⟩ := h
  have h2' : a1 w = nI 1 := h2
  have h3' : a2 (7 * w + 0) = nI x := (h3 0 Nat.one_pos).2
  unfold wpX_drop
  dsimp only
  refine ri_bw0 hw (br_t rfl ⟨pk_in w 2 hw, ?_⟩)
  rw [nI_clamp (show w < 2 ^ 31 by omega), h2']
  refine br_f (by decide) ⟨pk_in w 2 hw, pk_in w 2 hw, nm_r (e' := upd a1 w (nI 0)) ?_ ⟨pk_in w 2 hw, ?_⟩⟩
  · rw [show (nI 1 - 1).toInt8.toInt32 = nI 0 by decide]
  · rw [show upd a1 w (nI 0) w = nI 0 from pk_us]
    refine ri_rebL (xs := []) hw (by decide) rfl (fun j hj => absurd hj (Nat.not_lt_zero j)) rfl (fun b3 b4 m g3 g4 => ?_)
    dsimp only
    rw [show upd a1 w (nI 0) w = nI 0 from pk_us]
    refine ⟨pk_in w 2 hw, pk_in (7 * w + 0) 14 (by omega) (ri_7 w 0), ?_⟩
    rw [ri_c7 w 0 (by omega), h3']
    exact H _ b3 b4 ⟨by decide, pk_us, fun i hi => absurd hi (Nat.not_lt_zero i), m⟩ ⟨fun j hj => pk_un hj, fun j _ => rfl, g3, g4⟩
theorem ri_turn0 {post : Int32 → St2 → Prop} {T : ri_T} (hw : w < 2) (h : ri_pw a1 a2 a3 a4 w [] T)
    (H : ∀ b3 b4, ri_pw a1 a2 b3 b4 w [] ri_E0 → ri_fr w a1 a2 a3 a4 a1 a2 b3 b4 → post 0 (f, a1, a2, b3, b4, a5, a6, a7, a8, a9)) :
    wpX_turn post (f, a1, a2, a3, a4, a5, a6, a7, a8, a9) (nI w) := by
  obtain ⟨h1, h2, h3, h4⟩ := h
  unfold wpX_turn
  dsimp only
  refine ri_bw0 hw (br_t rfl ⟨pk_in w 2 hw, nm_r (e' := nI 0) ?_ ⟨1, br_t (by decide) ⟨1, br_t (by decide) (ri_rebL (xs := []) hw (by decide) rfl (fun j hj => absurd hj (Nat.not_lt_zero j)) rfl (fun b3 b4 m g3 g4 => H b3 b4 ⟨h1, h2, h3, m⟩ ⟨fun j _ => rfl, fun j _ => rfl, g3, g4⟩))⟩⟩⟩)
  rw [nI_clamp (show w < 2 ^ 31 by omega)]
  exact h2
theorem ri_turn1 {post : Int32 → St2 → Prop} {T T' : ri_T} {x : Nat} (hw : w < 2) (h : ri_pw a1 a2 a3 a4 w [x] T) (hx : x ≤ 7) (hx1 : 1 ≤ x) (e : ri_tb [8 - x] ri_E0 = some T')
    (H : ∀ b2 b3 b4, ri_pw a1 b2 b3 b4 w [8 - x] T' → ri_fr w a1 a2 a3 a4 a1 b2 b3 b4 → post 1 (f, a1, b2, b3, b4, a5, a6, a7, a8, a9)) :
    wpX_turn post (f, a1, a2, a3, a4, a5, a6, a7, a8, a9) (nI w) := by
  obtain ⟨h1, h2, h3, h4⟩ := h
  have h3' : a2 (7 * w + 0) = nI x := (h3 0 Nat.one_pos).2
  have hw' : ∀ j, j < [8 - x].length → ([8 - x].getD j 0 ≤ 7 ∧ upd a2 (7 * w + 0) (nI (8 - x)) (7 * w + j) = nI ([8 - x].getD j 0)) := by
    intro j hj
    have hj' : j < 1 := hj
    have ej : j = 0 := by omega
    subst ej
    exact ⟨show 8 - x ≤ 7 by omega, pk_us⟩
  unfold wpX_turn
  dsimp only
  refine ri_bw0 hw (br_t rfl ⟨pk_in w 2 hw, nm_r (e' := nI 1) ?_ ⟨1, br_t (by decide) ⟨2, br_f (by decide) ⟨pk_in (7 * w + 0) 14 (by omega) (ri_7 w 0), pk_in (7 * w + 0) 14 (by omega) (ri_7 w 0), nm_r (e' := upd a2 (7 * w + 0) (nI (8 - x))) ?_ (nm_r (e' := nI 1) (by decide) (br_t (by decide) (ri_rebL (xs := [8 - x]) hw (by decide) rfl hw' e (fun b3 b4 m g3 g4 => H _ b3 b4 ⟨h1, h2, hw', m⟩ ⟨fun j _ => rfl, fun j hj => pk_un (by omega), g3, g4⟩))))⟩⟩⟩⟩)
  · rw [nI_clamp (show w < 2 ^ 31 by omega)]
    exact h2
  · rw [← nI_0, ri_c7 w 0 (by omega), h3', show (8 : Int32) = nI 8 from rfl, pk_sub (by omega), ri_b _ (by omega)]
theorem ri_risL {post : Int32 → St2 → Prop} {T T2 T3 : ri_T} {W : List Nat} {n : Nat} (hw : w < 2) (h : ri_pw a1 a2 a3 a4 w W T) (hn : n ≤ W.length) (e2 : ri_tb (W.take n) ri_E0 = some T2) (e3 : ri_tb W ri_E0 = some T3)
    (H : ∀ b3 b4, ri_pw a1 a2 b3 b4 w W T3 → ri_fr w a1 a2 a3 a4 a1 a2 b3 b4 → post (nI (ri_row T2 0).length) (f, a1, a2, b3, b4, a5, a6, a7, a8, a9)) :
    wpX_risingOf post (f, a1, a2, a3, a4, a5, a6, a7, a8, a9) (nI w) (nI n) := by
  obtain ⟨h1, h2, h3, h4⟩ := h
  have el : (W.take n).length = n := by rw [List.length_take]; omega
  unfold wpX_risingOf
  dsimp only
  refine ri_bw0 hw (br_t rfl (br_f (nI_pos (by omega)) ⟨pk_in w 2 hw, ?_⟩))
  rw [nI_clamp (show w < 2 ^ 31 by omega), h2]
  refine pk_le n W.length (fun _ => ?_) (fun z => absurd z (by omega))
  refine ri_rebL (xs := W.take n) hw (by omega) el (fun j hj => ?_) e2 (fun b3 b4 m g3 g4 => ⟨pk_in (7 * w) 14 (by omega) (pk_mul 7 w), nm_r (e' := nI (ri_row T2 0).length) ?_ ⟨pk_in w 2 hw, ?_⟩⟩)
  · rw [el] at hj
    rw [ri_gtake hj]
    exact h3 j (by omega)
  · rw [show (7 : Int32) * nI w = nI (7 * w) from pk_mul 7 w, nI_clamp (show 7 * w < 2 ^ 31 by omega)]
    exact (m.2 0 (by decide)).2.1
  · dsimp only
    rw [h2]
    exact ri_rebL (xs := W) hw h1 rfl h3 e3 (fun c3 c4 m' k3 k4 => H c3 c4 ⟨h1, h2, h3, m'⟩ ⟨fun j _ => rfl, fun j _ => rfl, fun j hj => by rw [k3 j hj]; exact g3 j hj, fun j hj => by rw [k4 j hj]; exact g4 j hj⟩)
theorem ri_ris4 {post : Int32 → St2 → Prop} (h : a1 1 = 3) (H : post (-1) (f, a1, a2, a3, a4, a5, a6, a7, a8, a9)) :
    wpX_risingOf post (f, a1, a2, a3, a4, a5, a6, a7, a8, a9) 1 4 := by
  unfold wpX_risingOf
  dsimp only
  refine ri_bw0 (w := 1) (by decide) (br_t rfl (br_f (by decide) ⟨pk_in 1 2 (by decide), br_f ?_ H⟩))
  rw [show (1 : Int32).toNatClampNeg = 1 from rfl, h]
  decide
theorem ri_rism {post : Int32 → St2 → Prop} (hw : w < 2) (H : post (-1) (f, a1, a2, a3, a4, a5, a6, a7, a8, a9)) :
    wpX_risingOf post (f, a1, a2, a3, a4, a5, a6, a7, a8, a9) (nI w) (-1) := by
  unfold wpX_risingOf
  dsimp only
  exact ri_bw0 hw (br_t rfl (br_t (by decide) H))
theorem ri_swap0 {post : St2 → Prop} {a b : Nat} (ha : a ≤ 7) (hb : b ≤ 7) (hA : a2 7 = nI a) (hB : a2 8 = nI b) (H : post (f, a1, upd (upd a2 7 (nI b)) 8 (nI a), a3, a4, a5, a6, a7, a8, a9)) :
    wpX_swap post (f, a1, a2, a3, a4, a5, a6, a7, a8, a9) 1 0 := by
  unfold wpX_swap
  dsimp only
  refine nm_r (e' := 7) (by decide) ⟨pk_in 7 14 (by decide), nm_r (e' := nI a) hA ⟨pk_in 8 14 (by decide), pk_in 7 14 (by decide), nm_r (e' := upd a2 7 (nI b)) ?_ ⟨pk_in 8 14 (by decide), nm_r (e' := upd (upd a2 7 (nI b)) 8 (nI a)) ?_ H⟩⟩⟩
  · show upd a2 7 (vp_nar .byte (a2 8)) = _
    rw [hB, ri_vb (by omega)]
  · show upd (upd a2 7 (nI b)) 8 (vp_nar .byte (nI a)) = _
    rw [ri_vb (by omega)]
theorem ri_swap1 {post : St2 → Prop} {a b : Nat} (ha : a ≤ 7) (hb : b ≤ 7) (hA : a2 8 = nI a) (hB : a2 9 = nI b) (H : post (f, a1, upd (upd a2 8 (nI b)) 9 (nI a), a3, a4, a5, a6, a7, a8, a9)) :
    wpX_swap post (f, a1, a2, a3, a4, a5, a6, a7, a8, a9) 1 1 := by
  unfold wpX_swap
  dsimp only
  refine nm_r (e' := 8) (by decide) ⟨pk_in 8 14 (by decide), nm_r (e' := nI a) hA ⟨pk_in 9 14 (by decide), pk_in 8 14 (by decide), nm_r (e' := upd a2 8 (nI b)) ?_ ⟨pk_in 9 14 (by decide), nm_r (e' := upd (upd a2 8 (nI b)) 9 (nI a)) ?_ H⟩⟩⟩
  · show upd a2 8 (vp_nar .byte (a2 9)) = _
    rw [hB, ri_vb (by omega)]
  · show upd (upd a2 8 (nI b)) 9 (vp_nar .byte (nI a)) = _
    rw [ri_vb (by omega)]
end
end
section
section
variable {f : Int32} {a1 a2 a3 a4 a5 a6 a7 a8 a9 : Nat → Int32} {w : Nat}
theorem ri_moveN {post : Int32 → St2 → Prop} {p : Int32} (h : a1 1 = 3) (h0 : ¬ p = 0) (h1 : ¬ p = 1) (H : post (-4) (f, a1, a2, a3, a4, a5, a6, a7, a8, a9)) : wpX_move post (f, a1, a2, a3, a4, a5, a6, a7, a8, a9) 1 p := by
  unfold wpX_move
  dsimp only
  exact ri_bw0 (w := 1) (by decide) (br_t rfl (ri_np3n h h0 h1 (br_f (by decide) H)))
theorem ri_move0 {post : Int32 → St2 → Prop} {a b c : Nat} (h : a1 1 = 3) (ha : a ≤ 7) (hb : b ≤ 7) (hA : a2 7 = nI a) (hB : a2 8 = nI b) (hC : a2 9 = nI c)
    (H0 : ri_m0 (nI a) (nI b) (nI c) = 0 → post (-4) (f, a1, a2, a3, a4, a5, a6, a7, a8, a9))
    (H1 : ¬ ri_m0 (nI a) (nI b) (nI c) = 0 → post 1 (f, a1, upd (upd a2 7 (nI b)) 8 (nI a), a3, a4, a5, a6, a7, a8, a9)) : wpX_move post (f, a1, a2, a3, a4, a5, a6, a7, a8, a9) 1 0 := by
  unfold wpX_move
  dsimp only
  exact ri_bw0 (w := 1) (by decide) (br_t rfl (ri_np3 (i := 0) h (by decide) (br_t rfl (ri_may0 h hA hB hC (br_c H0 (fun z => ri_swap0 ha hb hA hB (H1 z)))))))
theorem ri_move1 {post : Int32 → St2 → Prop} {a b c : Nat} (h : a1 1 = 3) (hb : b ≤ 7) (hc : c ≤ 7) (hA : a2 7 = nI a) (hB : a2 8 = nI b) (hC : a2 9 = nI c)
    (H0 : ri_m1 (nI a) (nI b) (nI c) = 0 → post (-4) (f, a1, a2, a3, a4, a5, a6, a7, a8, a9))
    (H1 : ¬ ri_m1 (nI a) (nI b) (nI c) = 0 → post 1 (f, a1, upd (upd a2 8 (nI c)) 9 (nI b), a3, a4, a5, a6, a7, a8, a9)) : wpX_move post (f, a1, a2, a3, a4, a5, a6, a7, a8, a9) 1 1 := by
  unfold wpX_move
  dsimp only
  exact ri_bw0 (w := 1) (by decide) (br_t rfl (ri_np3 (i := 1) h (by decide) (br_t rfl (ri_may1 h hA hB hC (br_c H0 (fun z => ri_swap1 hb hc hB hC (H1 z)))))))
theorem ri_exch {post : Int32 → St2 → Prop} {p : Int32} (hw : w < 2) (h : a1 w = 0) (H : post (-4) (f, a1, a2, a3, a4, a5, a6, a7, a8, a9)) : wpX_exchange post (f, a1, a2, a3, a4, a5, a6, a7, a8, a9) (nI w) p := by
  unfold wpX_exchange
  dsimp only
  exact ri_bw0 hw (br_t rfl (ri_np0 hw h (br_f (by decide) H)))
theorem ri_exch0 {post : Int32 → St2 → Prop} {a b c : Nat} (h : a1 1 = 3) (ha : a ≤ 7) (hb : b ≤ 7) (hA : a2 7 = nI a) (hB : a2 8 = nI b) (hC : a2 9 = nI c) (hz : ¬ ri_m0 (nI a) (nI b) (nI c) = 0)
    (H1 : post 1 (f, a1, upd (upd a2 7 (nI b)) 8 (nI a), a3, a4, a5, a6, a7, a8, a9)) : wpX_exchange post (f, a1, a2, a3, a4, a5, a6, a7, a8, a9) 1 0 := by
  unfold wpX_exchange
  dsimp only
  exact ri_bw0 (w := 1) (by decide) (br_t rfl (ri_np3 (i := 0) h (by decide) (br_t rfl (ri_may0 h hA hB hC (ri_swap0 ha hb hA hB (br_f hz (br_f hz H1)))))))
theorem ri_exch1 {post : Int32 → St2 → Prop} {a b c : Nat} (h : a1 1 = 3) (hb : b ≤ 7) (hc : c ≤ 7) (hA : a2 7 = nI a) (hB : a2 8 = nI b) (hC : a2 9 = nI c) (hz : ¬ ri_m1 (nI a) (nI b) (nI c) = 0)
    (H1 : post 1 (f, a1, upd (upd a2 8 (nI c)) 9 (nI b), a3, a4, a5, a6, a7, a8, a9)) : wpX_exchange post (f, a1, a2, a3, a4, a5, a6, a7, a8, a9) 1 1 := by
  unfold wpX_exchange
  dsimp only
  exact ri_bw0 (w := 1) (by decide) (br_t rfl (ri_np3 (i := 1) h (by decide) (br_t rfl (ri_may1 h hA hB hC (ri_swap1 hb hc hB hC (br_f hz (br_f hz H1)))))))
theorem ri_start {post : St2 → Prop} {T : ri_T} {N : Nat} (hw : w < 2) (hN : N ≤ 7) (h1 : a1 w = nI N) (hT : ri_mt a3 a4 w T)
    (H : ∀ b5 b6, ri_mt b5 b6 N T → post (0, a1, a2, a3, a4, b5, b6, upd a7 N 0, a8, a9)) : wpX_startLevels post (f, a1, a2, a3, a4, a5, a6, a7, a8, a9) (nI w) := by
  unfold wpX_startLevels
  dsimp only
  refine ⟨pk_in w 2 hw, nm_r (e' := nI N) (by rw [nI_clamp (show w < 2 ^ 31 by omega)]; exact h1) ?_⟩
  refine pk_loop (fun n i s => wX_startLevels_9 post (nI w) (nI N) f n (nI i) a1 a2 a3 a4 s a6 a7 a8 a9) (fun i s => ∀ k, k < i → s (49 * N + k) = vp_nar .byte (a3 (49 * w + k))) 49 0 a5 (by omega) (fun j hj => absurd hj (Nat.not_lt_zero j)) ?_ ?_
  · intro n b5 h5
    refine pk_le 49 49 (fun _ => ?_) (fun z => absurd z (by omega))
    refine pk_loop (fun n i s => wX_startLevels_45 post (nI w) (nI N) f n (nI i) a1 a2 a3 a4 b5 s a7 a8 a9) (fun i s => ∀ k, k < i → s (7 * N + k) = vp_nar .byte (a4 (7 * w + k))) 7 0 a6 (by omega) (fun j hj => absurd hj (Nat.not_lt_zero j)) ?_ ?_
    · intro n b6 h6
      exact pk_le 7 7 (fun _ => ⟨pk_in N 8 (by omega), nm_r (by rw [nI_clamp (show N < 2 ^ 31 by omega)]) (H b5 b6 (ri_mt_cp hT h5 h6))⟩) (fun z => absurd z (by omega))
    · intro n i s hi hs hk
      refine pk_le 7 i (fun z => absurd z (by omega)) (fun _ => ⟨pk_in (7 * w + i) 14 (by omega) (ri_7 w i), pk_in (7 * N + i) 56 (by omega) (ri_7 N i), nm_r (e' := upd s (7 * N + i) (vp_nar .byte (a4 (7 * w + i)))) ?_ (nm_r (nI_1 i) (hk _ (fun k hk => ?_)))⟩)
      · rw [ri_c7 w i (by omega), ri_c7 N i (by omega)]
      · by_cases ek : k = i
        · rw [ek]
          exact pk_us
        · rw [pk_un (by omega)]
          exact hs k (by omega)
  · intro n i s hi hs hk
    refine pk_le 49 i (fun z => absurd z (by omega)) (fun _ => ⟨pk_in (49 * w + i) 98 (by omega) (ri_49 w i), pk_in (49 * N + i) 392 (by omega) (ri_49 N i), nm_r (e' := upd s (49 * N + i) (vp_nar .byte (a3 (49 * w + i)))) ?_ (nm_r (nI_1 i) (hk _ (fun k hk => ?_)))⟩)
    · rw [ri_c49 w i (by omega), ri_c49 N i (by omega)]
    · by_cases ek : k = i
      · rw [ek]
        exact pk_us
      · rw [pk_un (by omega)]
        exact hs k (by omega)
theorem ri_corn {post : Int32 → Prop} {T : ri_T} {n r : Nat} (hn : n ≤ 7) (hr : r < 7) (hT : ri_mt a5 a6 n T) (H : post (if ri_cor T r = true then 1 else 0)) :
    wpX_isCorner post (f, a1, a2, a3, a4, a5, a6, a7, a8, a9) (nI n) (nI r) := by
  obtain ⟨h1, h2, _⟩ := hT.2 r hr
  unfold ri_cor at H
  unfold wpX_isCorner
  dsimp only
  refine ⟨pk_in (7 * n + r) 56 (by omega) (ri_7 n r), nm_r (e' := nI (ri_row T r).length) (by rw [ri_c7 n r (by omega)]; exact h2) (pk_le 7 (r + 1) (fun z => ?_) (fun z => ⟨pk_in (7 * n + (r + 1)) 56 (by omega) (by rw [ri_7, nI_1, Nat.add_assoc]), ?_⟩) rfl (nI_1 r))⟩
  · rw [if_neg (show ¬ r + 1 < 7 by omega)] at H
    refine pk_le (ri_row T r).length 0 (fun y => ?_) (fun y => ?_)
    · rw [decide_eq_false (show ¬ 0 < (ri_row T r).length by omega)] at H
      exact H
    · rw [decide_eq_true (show 0 < (ri_row T r).length by omega)] at H
      exact H
  · obtain ⟨k1, k2, _⟩ := hT.2 (r + 1) z
    rw [if_pos (show r + 1 < 7 by omega)] at H
    rw [ri_7, nI_1, nI_clamp (show 7 * n + r + 1 < 2 ^ 31 by omega), Nat.add_assoc, k2]
    refine pk_le (ri_row T r).length (ri_row T (r + 1)).length (fun y => ?_) (fun y => ?_)
    · rw [decide_eq_false (show ¬ (ri_row T (r + 1)).length < (ri_row T r).length by omega)] at H
      exact H
    · rw [decide_eq_true (show (ri_row T (r + 1)).length < (ri_row T r).length by omega)] at H
      exact H
theorem ri_lb_le (R : List Nat) (x : Nat) : ∀ c, ri_lb R x c ≤ c := by
  intro c
  induction c with
  | zero => exact Nat.le_refl 0
  | succ c ih =>
    rw [ri_lb]
    by_cases h : R.getD (c + 1) 0 < x
    · rw [if_pos h]
      exact Nat.le_refl _
    · rw [if_neg h]
      omega
theorem ri_lb15 {post : Int32 → Prop} {T : ri_T} {n r x : Nat} (hn : n ≤ 7) (hr : r < 7) (hT : ri_mt a5 a6 n T) (hx : x ≤ 7) : ∀ c, c < (ri_row T r).length → post (nI (ri_lb (ri_row T r) x c)) →
    wX_lastBelow_15 post (nI n) (nI r) (nI x) f a1 a2 a3 a4 a5 a6 a7 a8 a9 (c + 1) (nI c) := by
  obtain ⟨h1, h2, h3⟩ := hT.2 r hr
  intro c
  induction c with
  | zero => exact fun _ H => pk_le 0 0 (fun _ => H) (fun z => absurd z (by omega))
  | succ c ih =>
    intro hc H
    rw [ri_lb] at H
    obtain ⟨k1, k2⟩ := h3 (c + 1) hc
    refine pk_le (c + 1) 0 (fun z => absurd z (by omega)) (fun _ => ⟨pk_in (49 * n + 7 * r + (c + 1)) 392 (by omega) (ri_49c n r _), ?_⟩)
    rw [ri_c49c n r _ (by omega), k2]
    refine pk_lt ((ri_row T r).getD (c + 1) 0) x (fun z => ?_) (fun z => nm_r (pk_m1 c) (ih (by omega) ?_))
    · rw [if_pos z] at H
      exact H
    · rw [if_neg (by omega)] at H
      exact H
theorem ri_lbL {post : Int32 → Prop} {T : ri_T} {n r x : Nat} (hn : n ≤ 7) (hr : r < 7) (hT : ri_mt a5 a6 n T) (hx : x ≤ 7) (h0 : 0 < (ri_row T r).length) (H : post (nI (ri_lb (ri_row T r) x ((ri_row T r).length - 1)))) :
    wpX_lastBelow post (f, a1, a2, a3, a4, a5, a6, a7, a8, a9) (nI n) (nI r) (nI x) := by
  obtain ⟨h1, h2, h3⟩ := hT.2 r hr
  unfold wpX_lastBelow
  dsimp only
  refine ⟨pk_in (7 * n + r) 56 (by omega) (ri_7 n r), nm_r (e' := nI ((ri_row T r).length - 1)) ?_ ⟨_, ri_lb15 hn hr hT hx ((ri_row T r).length - 1) (by omega) H⟩⟩
  rw [ri_c7 n r (by omega), h2]
  exact pk_sub (b := 1) h0
end
section
variable {f : Int32} {a1 a2 a3 a4 a7 a8 a9 : Nat → Int32} {w : Nat}
theorem ri_tk133 {post : St2 → Prop} {A5 a6 : Nat → Int32} {T' : ri_T} {x' m : Nat} (hm : m ≤ 7)
    (H : ∀ b5, ri_mt b5 a6 m T' → (∀ j, 49 * m + 49 ≤ j → b5 j = A5 j) → post (f, a1, a2, a3, a4, b5, a6, upd a7 m 0, upd a8 m (nI x'), a9)) :
    ∀ r T x a5, r ≤ 7 → ri_mt a5 a6 m T → (∀ j, 49 * m + 49 ≤ j → a5 j = A5 j) → x ≤ 7 → ri_bmp r T x = some (T', x') →
    wX_takeOff_133 post (nI m) f (r + 1) (nI x) (nI r - 1) a1 a2 a3 a4 a5 a6 a7 a8 a9 := by
  intro r
  induction r with
  | zero =>
    intro T x a5 hr hT f5 hx e
    have e' := Option.some.inj e
    have e1 : T = T' := congrArg Prod.fst e'
    have e2 : x = x' := congrArg Prod.snd e'
    subst e1 e2
    refine br_t (by decide) ⟨pk_in m 8 (by omega), nm_r (e' := upd a8 m (nI x)) ?_ ⟨pk_in m 8 (by omega), nm_r (e' := upd a7 m 0) ?_ (H a5 hT f5)⟩⟩
    · rw [nI_clamp (show m < 2 ^ 31 by omega), ri_b x (by omega)]
    · rw [nI_clamp (show m < 2 ^ 31 by omega)]
  | succ r ih =>
    intro T x a5 hr hT f5 hx e
    rw [ri_bmp] at e
    by_cases h0 : 0 < (ri_row T r).length
    · rw [if_pos h0] at e
      obtain ⟨h1, h2, h3⟩ := hT.2 r (by omega)
      have hl := ri_lb_le (ri_row T r) x ((ri_row T r).length - 1)
      have hlt : ri_lb (ri_row T r) x ((ri_row T r).length - 1) < (ri_row T r).length := by omega
      obtain ⟨k1, k2⟩ := h3 _ hlt
      rw [nI_pred r]
      refine br_f (nI_pos (by omega)) (ri_lbL hm (by omega) hT hx h0 (nm_r (ri_49c m r _) ⟨pk_in (49 * m + 7 * r + ri_lb (ri_row T r) x ((ri_row T r).length - 1)) 392 (by omega), nm_r (e' := nI ((ri_row T r).getD (ri_lb (ri_row T r) x ((ri_row T r).length - 1)) 0)) ?_ ⟨pk_in (49 * m + 7 * r + ri_lb (ri_row T r) x ((ri_row T r).length - 1)) 392 (by omega), nm_r (e' := upd a5 (49 * m + 7 * r + ri_lb (ri_row T r) x ((ri_row T r).length - 1)) (nI x)) ?_ (nm_r (e' := nI r - 1) (Int32.sub_eq_add_neg _ _).symm (ih _ _ _ (by omega) (ri_mt_set hT (by omega) hlt hx) ?_ k1 e))⟩⟩))
      · rw [nI_clamp (by omega), k2]
      · rw [nI_clamp (by omega), ri_b x (by omega)]
      · intro j hj
        rw [pk_un (by omega)]
        exact f5 j hj
    · rw [if_neg h0] at e
      cases e
theorem ri_takeL {post : St2 → Prop} {a5 a6 : Nat → Int32} {T T' : ri_T} {x' m row : Nat} (hm : m ≤ 6) (hr : row < 7) (hT : ri_mt a5 a6 (m + 1) T) (h0 : 0 < (ri_row T row).length) (e : ri_tk T row = some (T', x'))
    (H : ∀ b5 b6, ri_mt b5 b6 m T' → (∀ j, 49 * m + 49 ≤ j → b5 j = a5 j) → (∀ j, 7 * m + 7 ≤ j → b6 j = a6 j) → post (f, a1, a2, a3, a4, b5, b6, upd a7 m 0, upd a8 m (nI x'), a9)) :
    wpX_takeOff post (f, a1, a2, a3, a4, a5, a6, a7, a8, a9) (nI (m + 1)) (nI row) := by
  obtain ⟨h1, h2, h3⟩ := hT.2 row hr
  unfold ri_tk at e
  unfold wpX_takeOff
  dsimp only
  refine nm_r (nI_pred m) ?_
  refine pk_loop (fun n i s => wX_takeOff_7 post (nI (m + 1)) (nI row) (nI m) f n (nI i) a1 a2 a3 a4 s a6 a7 a8 a9) (fun i s => (∀ k, k < i → s (49 * m + k) = vp_nar .byte (a5 (49 * (m + 1) + k))) ∧ (∀ j, 49 * m + 49 ≤ j → s j = a5 j)) 49 0 a5 (by omega) ⟨fun j hj => absurd hj (Nat.not_lt_zero j), fun j _ => rfl⟩ ?_ ?_
  · intro n b5 h5
    refine pk_le 49 49 (fun _ => ?_) (fun z => absurd z (by omega))
    refine pk_loop (fun n i s => wX_takeOff_47 post (nI (m + 1)) (nI row) (nI m) f n (nI i) a1 a2 a3 a4 b5 s a7 a8 a9) (fun i s => (∀ k, k < i → s (7 * m + k) = vp_nar .byte (a6 (7 * (m + 1) + k))) ∧ (∀ j, 7 * m + 7 ≤ j → s j = a6 j)) 7 0 a6 (by omega) ⟨fun j hj => absurd hj (Nat.not_lt_zero j), fun j _ => rfl⟩ ?_ ?_
    · intro n b6 h6
      have hM : ri_mt b5 b6 m T := ri_mt_cp hT h5.1 h6.1
      have hL : b6 (7 * m + row) = nI (ri_row T row).length := (hM.2 row hr).2.1
      obtain ⟨k1, k2⟩ := h3 ((ri_row T row).length - 1) (by omega)
      refine pk_le 7 7 (fun _ => ⟨pk_in (7 * m + row) 56 (by omega) (ri_7 m row), pk_in (7 * m + row) 56 (by omega) (ri_7 m row), nm_r (e' := upd b6 (7 * m + row) (nI ((ri_row T row).length - 1))) ?_ ⟨pk_in (7 * m + row) 56 (by omega) (ri_7 m row), ?_⟩⟩) (fun z => absurd z (by omega))
      · rw [ri_c7 m row (by omega), hL, show nI (ri_row T row).length - 1 = nI ((ri_row T row).length - 1) from pk_sub (b := 1) h0, ri_b _ (by omega)]
      · rw [ri_c7 m row (by omega), show upd b6 (7 * m + row) (nI ((ri_row T row).length - 1)) (7 * m + row) = nI ((ri_row T row).length - 1) from pk_us]
        refine ⟨pk_in (49 * (m + 1) + 7 * row + ((ri_row T row).length - 1)) 392 (by omega) (ri_49c (m + 1) row _), nm_r (e' := nI ((ri_row T row).getD ((ri_row T row).length - 1) 0)) ?_ (nm_e ⟨row + 1, ri_tk133 (A5 := b5) (by omega) (fun c5 mc fc => H c5 _ mc (fun j hj => ?_) (fun j hj => ?_)) row _ _ b5 (by omega) (ri_mt_cut hM hr) (fun j _ => rfl) k1 e⟩)⟩
        · rw [ri_c49c (m + 1) row _ (by omega), h5.2 _ (by omega), k2]
        · rw [fc j hj]
          exact h5.2 j hj
        · rw [pk_un (by omega)]
          exact h6.2 j hj
    · intro n i s hi hs hk
      refine pk_le 7 i (fun z => absurd z (by omega)) (fun _ => ⟨pk_in (7 * (m + 1) + i) 56 (by omega) (ri_7 (m + 1) i), pk_in (7 * m + i) 56 (by omega) (ri_7 m i), nm_r (e' := upd s (7 * m + i) (vp_nar .byte (a6 (7 * (m + 1) + i)))) ?_ (nm_r (nI_1 i) (hk _ ⟨fun k hk => ?_, fun j hj => ?_⟩))⟩)
      · rw [ri_c7 (m + 1) i (by omega), ri_c7 m i (by omega), hs.2 _ (by omega)]
      · by_cases ek : k = i
        · rw [ek]
          exact pk_us
        · rw [pk_un (by omega)]
          exact hs.1 k (by omega)
      · rw [pk_un (by omega)]
        exact hs.2 j hj
  · intro n i s hi hs hk
    refine pk_le 49 i (fun z => absurd z (by omega)) (fun _ => ⟨pk_in (49 * (m + 1) + i) 392 (by omega) (ri_49 (m + 1) i), pk_in (49 * m + i) 392 (by omega) (ri_49 m i), nm_r (e' := upd s (49 * m + i) (vp_nar .byte (a5 (49 * (m + 1) + i)))) ?_ (nm_r (nI_1 i) (hk _ ⟨fun k hk => ?_, fun j hj => ?_⟩))⟩)
    · rw [ri_c49 (m + 1) i (by omega), ri_c49 m i (by omega), hs.2 _ (by omega)]
    · by_cases ek : k = i
      · rw [ek]
        exact pk_us
      · rw [pk_un (by omega)]
        exact hs.1 k (by omega)
    · rw [pk_un (by omega)]
      exact hs.2 j hj
end
end
section
/-- the levels from lv on: rows and tries -/
def ri_sk (a5 a6 a7 : Nat → Int32) : Nat → List (ri_T × Nat) → Prop
  | _, [] => True
  | lv, p :: rest => ri_mt a5 a6 lv p.1 ∧ a7 lv = nI p.2 ∧ ri_sk a5 a6 a7 (lv + 1) rest
def ri_cm (a8 : Nat → Int32) : Nat → List Nat → Prop
  | _, [] => True
  | lv, x :: xs => a8 lv = nI x ∧ ri_cm a8 (lv + 1) xs
theorem ri_sk_fr {a5 a6 a7 b5 b6 b7 : Nat → Int32} : ∀ (st : List (ri_T × Nat)) (lv : Nat), (∀ j, 49 * lv ≤ j → b5 j = a5 j) → (∀ j, 7 * lv ≤ j → b6 j = a6 j) → (∀ j, lv ≤ j → b7 j = a7 j) → ri_sk a5 a6 a7 lv st → ri_sk b5 b6 b7 lv st := by
  intro st
  induction st with
  | nil => intro lv _ _ _ _; trivial
  | cons p rest ih =>
    intro lv h5 h6 h7 h
    obtain ⟨k1, k2, k3⟩ := h
    exact ⟨ri_mt_fr k1 (fun j h _ => h5 j h) (fun j h _ => h6 j h), by rw [h7 lv (Nat.le_refl lv)]; exact k2, ih (lv + 1) (fun j hj => h5 j (by omega)) (fun j hj => h6 j (by omega)) (fun j hj => h7 j (by omega)) k3⟩
theorem ri_cm_fr {a8 b8 : Nat → Int32} : ∀ (xs : List Nat) (lv : Nat), (∀ j, lv ≤ j → b8 j = a8 j) → ri_cm a8 lv xs → ri_cm b8 lv xs := by
  intro xs
  induction xs with
  | nil => intro lv _ _; trivial
  | cons x xs ih =>
    intro lv h8 h
    exact ⟨by rw [h8 lv (Nat.le_refl lv)]; exact h.1, ih (lv + 1) (fun j hj => h8 j (by omega)) h.2⟩
theorem ri_cm_tl {a8 : Nat → Int32} {lv : Nat} : ∀ (xs : List Nat), ri_cm a8 lv xs → ri_cm a8 (lv + 1) xs.tail := by
  intro xs h
  cases xs with
  | nil => trivial
  | cons x xs => exact h.2
/-- the codes -/
def ri_cs (a9 : Nat → Int32) (cs : List Nat) : Prop := ∀ j, j < cs.length → (cs.getD j 0 < 1000 ∧ a9 j = nI (cs.getD j 0))
section
variable {a1 a2 a3 a4 a5 a6 a7 a8 a9 : Nat → Int32}
theorem ri_kc32 {post : St2 → Prop} {cs cs' : List Nat} {v : Nat} (hv : v < 1000) (h9 : ri_cs a9 cs) (e : ri_kc v cs = some cs')
    (H : ∀ b9, ri_cs b9 cs' → post (nI cs'.length, a1, a2, a3, a4, a5, a6, a7, a8, b9)) :
    ∃ n, wX_keepCode_32 post (nI v) (nI cs.length) n (nI cs.length) a1 a2 a3 a4 a5 a6 a7 a8 a9 := by
  match cs, h9, e with
  | [], h9, e =>
    have e' : [v] = cs' := Option.some.inj e
    subst e'
    refine ⟨1, br_t (by decide) ⟨pk_in 0 64 (by decide), nm_r (e' := upd a9 0 (nI v)) rfl (nm_r (e' := nI 1) (by decide) (H _ (fun j hj => ?_)))⟩⟩
    have hj' : j < 1 := hj
    have ej : j = 0 := by omega
    subst ej
    exact ⟨hv, pk_us⟩
  | [d], h9, e =>
    obtain ⟨d1, d2⟩ := h9 0 Nat.one_pos
    have d1' : d < 1000 := d1
    have d2' : a9 0 = nI d := d2
    have e' : (if d ≤ v then [d, v] else [v, d]) = cs' := Option.some.inj e
    have c0 : (nI [d].length - 1).toNatClampNeg = 0 := by
      show (nI 1 - 1).toNatClampNeg = 0
      decide
    refine ⟨2, br_f (by show ¬ nI 1 ≤ 0; decide) ⟨pk_in 0 64 (by decide) (by show nI 1 - 1 = nI 0; decide), pk_le d v (fun z => ?_) (fun z => ?_) (by rw [c0]; exact d2') rfl⟩⟩
    · rw [if_pos z] at e'
      subst e'
      refine ⟨pk_in 1 64 (by decide), nm_r (e' := upd a9 1 (nI v)) rfl (nm_r (e' := nI 2) (by show nI 1 + 1 = nI 2; decide) (H _ (fun j hj => ?_)))⟩
      match j, hj with
      | 0, _ => exact ⟨d1', d2'⟩
      | 1, _ => exact ⟨hv, pk_us⟩
    · rw [if_neg (by omega)] at e'
      subst e'
      refine ⟨pk_in 0 64 (by decide) (by show nI 1 - 1 = nI 0; decide), pk_in 1 64 (by decide), nm_r (e' := upd a9 1 (nI d)) (by rw [c0, d2']; rfl) (nm_r (e' := nI 0) (by show nI 1 + (-1) = nI 0; decide) (br_t (by decide) ⟨pk_in 0 64 (by decide), nm_r (e' := upd (upd a9 1 (nI d)) 0 (nI v)) rfl (nm_r (e' := nI 2) (by show nI 1 + 1 = nI 2; decide) (H _ (fun j hj => ?_)))⟩))⟩
      match j, hj with
      | 0, _ => exact ⟨hv, pk_us⟩
      | 1, _ =>
        refine ⟨d1', ?_⟩
        show upd (upd a9 1 (nI d)) 0 (nI v) 1 = nI d
        rw [pk_un (by decide)]
        exact pk_us
theorem ri_kc4 {post : St2 → Prop} {f : Int32} {m : Nat} (hm : m ≤ 7) : ∀ (xs : List Nat) (i v : Nat), i + xs.length = m → ri_cm a8 i xs → (∃ n, wX_keepCode_32 post (nI (ri_cd xs v)) f n f a1 a2 a3 a4 a5 a6 a7 a8 a9) →
    wX_keepCode_4 post (nI m) f a1 a2 a3 a4 a5 a6 a7 a8 a9 (xs.length + 1) (nI v) (nI i) := by
  intro xs
  induction xs with
  | nil =>
    intro i v hi _ H
    have hi' : i = m := hi
    exact pk_le m i (fun _ => H) (fun z => absurd z (by omega))
  | cons x xs ih =>
    intro i v hi hc H
    rw [List.length_cons] at hi
    obtain ⟨c1, c2⟩ := hc
    refine pk_le m i (fun z => absurd z (by omega)) (fun _ => ⟨pk_in i 8 (by omega), nm_r (e' := nI (8 * v + x)) ?_ (nm_r (nI_1 i) (ih (i + 1) (8 * v + x) (by omega) c2 H))⟩)
    rw [nI_clamp (show i < 2 ^ 31 by omega), c1, show (8 : Int32) = nI 8 from rfl, pk_mul, nI_add]
theorem ri_kcL {post : St2 → Prop} {cm cs cs' : List Nat} (hm : cm.length ≤ 7) (hc : ri_cm a8 0 cm) (hv : ri_cd cm 0 < 1000) (h9 : ri_cs a9 cs) (e : ri_kc (ri_cd cm 0) cs = some cs')
    (H : ∀ b9, ri_cs b9 cs' → post (nI cs'.length, a1, a2, a3, a4, a5, a6, a7, a8, b9)) :
    wpX_keepCode post (nI cs.length, a1, a2, a3, a4, a5, a6, a7, a8, a9) (nI cm.length) := by
  unfold wpX_keepCode
  dsimp only
  exact ⟨cm.length + 1, ri_kc4 hm cm 0 0 (by omega) hc (ri_kc32 hv h9 e H)⟩
end
theorem ri_kc_len {v : Nat} {cs cs' : List Nat} (e : ri_kc v cs = some cs') : cs.length ≤ 1 := by
  match cs, e with
  | [], _ => exact Nat.zero_le _
  | [d], _ => exact Nat.le_refl _
theorem ri_lk17 {post : St2 → Prop} {a1 a2 a3 a4 : Nat → Int32} {m : Nat} {C : List Nat} (hm : m ≤ 7)
    (H : ∀ b5 b6 b7 b8 b9, ri_cs b9 C → post (nI C.length, a1, a2, a3, a4, b5, b6, b7, b8, b9)) :
    ∀ (k lv : Nat) (st : List (ri_T × Nat)) (cm cs : List Nat) (s : Nat) (a5 a6 a7 a8 a9 : Nat → Int32), ri_run m k lv st cm cs = some C → s + k ≤ 100000 → lv ≤ m + 1 → ri_sk a5 a6 a7 lv st → ri_cm a8 lv cm → ri_cs a9 cs →
    wX_listKin_17 post (nI m) k (nI lv) (nI s) (nI cs.length) a1 a2 a3 a4 a5 a6 a7 a8 a9 := by
  intro k
  induction k with
  | zero => intro lv st cm cs s a5 a6 a7 a8 a9 e; rw [ri_run] at e; cases e
  | succ k ih =>
    intro lv st cm cs s a5 a6 a7 a8 a9 e hs hlv hst hcm hcs
    unfold ri_run at e
    by_cases hd : m < lv
    · rw [if_pos hd] at e
      have e' : cs = C := Option.some.inj e
      subst e'
      exact pk_le 100000 s (fun z => absurd z (by omega)) (fun _ => pk_lt m lv (fun _ => H _ _ _ _ _ hcs) (fun z => absurd z (by omega)))
    · rw [if_neg hd] at e
      match st, hst, e with
      | [], _, e => cases e
      | (T, t) :: rest, hst, e =>
        obtain ⟨k1, k2, k3⟩ := hst
        dsimp only at k1 k2 e
        refine pk_le 100000 s (fun z => absurd z (by omega)) (fun _ => pk_lt m lv (fun z => absurd z (by omega)) (fun _ => ?_))
        by_cases h0 : lv = 0
        · subst h0
          rw [if_pos rfl] at e
          by_cases hc : cm.length = m ∧ ri_cd cm 0 < 1000
          · rw [if_pos hc] at e
            obtain ⟨hc1, hc2⟩ := hc
            subst hc1
            cases hk : ri_kc (ri_cd cm 0) cs with
            | none => rw [hk] at e; cases e
            | some cs' =>
              rw [hk] at e
              have hl := ri_kc_len hk
              exact br_t rfl (pk_le 64 cs.length (fun z => absurd z (by omega)) (fun _ => ri_kcL hm hcm hc2 hcs hk (fun b9 h9 => nm_r (nI_1 0) (nm_r (nI_1 s) (ih 1 rest cm.tail cs' (s + 1) a5 a6 a7 a8 b9 e (by omega) (by omega) k3 (ri_cm_tl cm hcm) h9)))))
          · rw [if_neg hc] at e
            cases e
        · rw [if_neg h0] at e
          refine br_f (nI_ne0 (by omega) (by omega)) ⟨pk_in lv 8 (by omega), ?_⟩
          rw [nI_clamp (show lv < 2 ^ 31 by omega), k2]
          by_cases h7 : t = 7
          · rw [if_pos h7] at e
            exact br_t (by rw [h7]; rfl) (nm_r (nI_1 lv) (nm_r (nI_1 s) (ih (lv + 1) rest cm.tail cs (s + 1) a5 a6 a7 a8 a9 e (by omega) (by omega) k3 (ri_cm_tl cm hcm) hcs)))
          · rw [if_neg h7] at e
            by_cases ht : t < 7
            · rw [if_pos ht] at e
              refine br_f (fun z => h7 ((nI_eq (by omega) (by decide)).mp (show nI t = nI 7 from z))) ⟨pk_in lv 8 (by omega), nm_e ⟨pk_in lv 8 (by omega), pk_in lv 8 (by omega), nm_r (e' := upd a7 lv (nI (t + 1))) ?_ (ri_corn (by omega) ht k1 ?_)⟩⟩
              · rw [nI_1, ri_b _ (by omega)]
              · have k3' : ∀ x, ri_sk a5 a6 (upd a7 lv x) (lv + 1) rest := fun x => ri_sk_fr rest (lv + 1) (fun j _ => rfl) (fun j _ => rfl) (fun j hj => pk_un (by omega)) k3
                by_cases hcor : ri_cor T t = true
                · rw [if_pos hcor] at e
                  rw [if_pos hcor]
                  cases hk : ri_tk T t with
                  | none => rw [hk] at e; cases e
                  | some p =>
                    rw [hk] at e
                    dsimp only at e
                    obtain ⟨m', em⟩ : ∃ m', lv = m' + 1 := ⟨lv - 1, by omega⟩
                    subst em
                    have hpos : 0 < (ri_row T t).length := by
                      unfold ri_cor at hcor
                      have := of_decide_eq_true hcor
                      omega
                    refine br_f (by decide) (ri_takeL (by omega) ht k1 hpos (T' := p.1) (x' := p.2) hk (fun b5 b6 mm f5 f6 => nm_r (pk_m1 m') (nm_r (nI_1 s) (ih m' _ _ cs (s + 1) b5 b6 _ _ a9 e (by omega) (by omega) ⟨mm, pk_us, ?_, ?_, ?_⟩ ⟨pk_us, ?_⟩ hcs))))
                    · exact ri_mt_fr k1 (fun j h _ => f5 j (by omega)) (fun j h _ => f6 j (by omega))
                    · rw [pk_un (by omega)]
                      exact pk_us
                    · exact ri_sk_fr rest (m' + 1 + 1) (fun j hj => f5 j (by omega)) (fun j hj => f6 j (by omega)) (fun j hj => pk_un (by omega)) (k3' _)
                    · exact ri_cm_fr cm (m' + 1) (fun j hj => pk_un (by omega)) hcm
                · rw [if_neg hcor] at e
                  rw [if_neg hcor]
                  exact br_t rfl (nm_r (nI_1 s) (ih lv _ cm cs (s + 1) a5 a6 _ a8 a9 e (by omega) (by omega) ⟨k1, pk_us, k3' _⟩ hcm hcs))
            · rw [if_neg ht] at e
              cases e
section
variable {f : Int32} {a1 a2 a3 a4 a5 a6 a7 a8 a9 : Nat → Int32} {w : Nat}
theorem ri_kinAtL {post : Int32 → St2 → Prop} {W C : List Nat} {T : ri_T} {q : Nat} (hw : w < 2) (h : ri_pw a1 a2 a3 a4 w W T) (e : ri_run W.length 100 W.length [(T, 0)] [] [] = some C) (hC : C.length ≤ 64) (hq : q < 2 ^ 31)
    (H : ∀ g b5 b6 b7 b8 b9, post (if q < C.length then nI (C.getD q 0) else -4) (g, a1, a2, a3, a4, b5, b6, b7, b8, b9)) :
    wpX_kinAt post (f, a1, a2, a3, a4, a5, a6, a7, a8, a9) (nI w) (nI q) := by
  obtain ⟨h1, h2, h3, h4⟩ := h
  unfold wpX_kinAt
  dsimp only
  refine ri_bw0 hw (br_t rfl (br_t (nI_pos' hq) ?_))
  unfold wpX_listKin
  dsimp only
  refine ⟨pk_in w 2 hw, nm_r (e' := nI W.length) (by rw [nI_clamp (show w < 2 ^ 31 by omega)]; exact h2) (ri_start hw h1 h2 h4 (fun b5 b6 hm => ⟨100, ?_⟩))⟩
  refine ri_lk17 h1 (fun c5 c6 c7 c8 c9 h9 => ?_) 100 W.length [(T, 0)] [] [] 0 b5 b6 (upd a7 W.length 0) a8 a9 e (by omega) (by omega) ⟨hm, pk_us, trivial⟩ trivial (fun j hj => absurd hj (Nat.not_lt_zero j))
  refine pk_le C.length q (fun z => ?_) (fun z => ⟨pk_in q 64 (by omega), ?_⟩)
  · have := H (nI C.length) c5 c6 c7 c8 c9
    rw [if_neg (by omega)] at this
    exact this
  · have := H (nI C.length) c5 c6 c7 c8 c9
    rw [if_pos z, ← (h9 q z).2] at this
    dsimp only
    rw [nI_clamp hq]
    exact this
theorem ri_kinAtm {post : Int32 → St2 → Prop} (hw : w < 2) (H : post (-4) (f, a1, a2, a3, a4, a5, a6, a7, a8, a9)) :
    wpX_kinAt post (f, a1, a2, a3, a4, a5, a6, a7, a8, a9) (nI w) (-1) := by
  unfold wpX_kinAt
  dsimp only
  exact ri_bw0 hw (br_t rfl (br_f (by decide) H))
end
end
section
/-! the law's own values, and what holds of all words of three letters -/
def ri_tbD (W : List Nat) : ri_T := (ri_tb W ri_E0).getD ri_E0
def ri_cs3 (T : ri_T) : List Nat := (ri_run 3 100 3 [(T, 0)] [] []).getD []
def ri_K (Cs : List Nat) (q : Nat) : Int32 := if q < Cs.length then nI (Cs.getD q 0) else -4
def ri_v1 (A B C : Int32) : Int32 := if C < ri_lo A B then 0 else if ri_hi A B ≤ C then 0 else 1
def ri_v2 (A B C : Int32) : Int32 := if A ≤ ri_lo B C then 0 else if ri_hi B C < A then 0 else if ri_hi B C ≤ ri_lo B C then 0 else 1
def ri_rs (A B C : Int32) : Int32 := if (if B < A then (0 : Int32) else 1) + (if C < B then 0 else 1) = 2 then 3 else if A ≤ B then 2 else if B ≤ C then 2 else if C < A then 1 else 2
def ri_fg (A B C : Int32) : Int32 := if B < A then 2 else if C < B then 2 else if A ≤ C then 1 else 2
def ri_fs (A B C : Int32) : Int32 := if A ≤ B then ri_fg A B C else if B ≤ C then ri_fg A B C else 3
theorem ri_f1 : ∀ a, a < 7 → ri_ins 7 0 ri_E0 (a + 1) = some (ri_tbD [a + 1]) ∧ ri_tb [a + 1] ri_E0 = some (ri_tbD [a + 1]) := by decide +kernel
theorem ri_f2 : ∀ a, a < 7 → ∀ b, b < 7 → ri_ins 7 0 (ri_tbD [a + 1]) (b + 1) = some (ri_tbD [a + 1, b + 1]) ∧ ri_tb [a + 1, b + 1] ri_E0 = some (ri_tbD [a + 1, b + 1]) ∧
    nI (ri_row (ri_tbD [a + 1, b + 1]) 0).length = (if nI (b + 1) < nI (a + 1) then 1 else 2) := by decide +kernel
theorem ri_some {α : Type} {o : Option α} {d : α} (h : o.isSome = true) : o = some (o.getD d) := by
  cases o with
  | none => cases h
  | some x => rfl
theorem ri_f3a : ∀ a, a < 7 → ∀ b, b < 7 → ∀ c, c < 7 → (ri_tb [a + 1, b + 1, c + 1] ri_E0).isSome = true := by decide +kernel
theorem ri_f3 {a b c : Nat} (ha : a < 7) (hb : b < 7) (hc : c < 7) : ri_ins 7 0 (ri_tbD [a + 1, b + 1]) (c + 1) = some (ri_tbD [a + 1, b + 1, c + 1]) ∧ ri_tb [a + 1, b + 1, c + 1] ri_E0 = some (ri_tbD [a + 1, b + 1, c + 1]) := by
  have h := ri_some (d := ri_E0) (ri_f3a a ha b hb c hc)
  refine ⟨?_, h⟩
  rw [ri_tb, (ri_f1 a ha).1] at h
  dsimp only at h
  rw [ri_tb, (ri_f2 a ha b hb).1] at h
  dsimp only at h
  rw [ri_tb] at h
  cases hU : ri_ins 7 0 (ri_tbD [a + 1, b + 1]) (c + 1) with
  | none => rw [hU] at h; cases h
  | some U =>
    rw [hU] at h
    dsimp only at h
    rw [ri_tb] at h
    have e1 : (ri_tb [a + 1, b + 1, c + 1] ri_E0) = some U := by
      rw [ri_tb, (ri_f1 a ha).1]
      dsimp only
      rw [ri_tb, (ri_f2 a ha b hb).1]
      dsimp only
      rw [ri_tb, hU]
      rfl
    unfold ri_tbD
    rw [e1]
    rfl
theorem ri_f4 : ∀ a, a < 7 → ∀ b, b < 7 → ∀ c, c < 7 → nI (ri_row (ri_tbD [a + 1, b + 1, c + 1]) 0).length = ri_rs (nI (a + 1)) (nI (b + 1)) (nI (c + 1)) ∧
    nI (ri_sum (ri_tbD [a + 1, b + 1, c + 1]) 1 0) = ri_rs (nI (a + 1)) (nI (b + 1)) (nI (c + 1)) ∧ nI (ri_sml (ri_tbD [a + 1, b + 1, c + 1]) 1 7 0) = ri_fs (nI (a + 1)) (nI (b + 1)) (nI (c + 1)) ∧
    ri_sum (ri_tbD [a + 1, b + 1, c + 1]) 3 0 = 3 ∧ ri_sml (ri_tbD [a + 1, b + 1, c + 1]) 3 7 0 = 3 ∧ 0 < (ri_row (ri_tbD [a + 1, b + 1, c + 1]) 0).length := by decide +kernel
theorem ri_f5 : ∀ a, a < 7 → ∀ b, b < 7 → ∀ c, c < 7 → (ri_kin (ri_tbD [a + 1, b + 1, c + 1]) 49 0 1 1 0).1 < 2 ^ 31 ∧ 0 < (ri_kin (ri_tbD [a + 1, b + 1, c + 1]) 49 0 1 1 0).2 ∧ (ri_kin (ri_tbD [a + 1, b + 1, c + 1]) 49 0 1 1 0).2 < 2 ^ 31 ∧
    nI ((ri_kin (ri_tbD [a + 1, b + 1, c + 1]) 49 0 1 1 0).1 / (ri_kin (ri_tbD [a + 1, b + 1, c + 1]) 49 0 1 1 0).2) = (if ri_v1 (nI (a + 1)) (nI (b + 1)) (nI (c + 1)) = 0 then (if ri_v2 (nI (a + 1)) (nI (b + 1)) (nI (c + 1)) = 0 then 1 else 2) else 2) := by decide +kernel
theorem ri_f6 : ∀ a, a < 7 → ∀ b, b < 7 → ∀ c, c < 7 → ri_m0 (nI (a + 1)) (nI (b + 1)) (nI (c + 1)) = ri_v1 (nI (a + 1)) (nI (b + 1)) (nI (c + 1)) ∧ ri_m1 (nI (a + 1)) (nI (b + 1)) (nI (c + 1)) = ri_v2 (nI (a + 1)) (nI (b + 1)) (nI (c + 1)) ∧
    ri_m0 (nI (b + 1)) (nI (a + 1)) (nI (c + 1)) = ri_v1 (nI (a + 1)) (nI (b + 1)) (nI (c + 1)) ∧ ri_m1 (nI (a + 1)) (nI (c + 1)) (nI (b + 1)) = ri_v2 (nI (a + 1)) (nI (b + 1)) (nI (c + 1)) ∧
    nI (ri_cd [a + 1, b + 1, c + 1] 0) = 64 * nI (a + 1) + 8 * nI (b + 1) + nI (c + 1) := by decide +kernel
theorem ri_f7a : ∀ a, a < 7 → ∀ b, b < 7 → ∀ c, c < 7 → (ri_run 3 100 3 [((ri_tbD [a + 1, b + 1, c + 1]), 0)] [] []).isSome = true := by decide +kernel
theorem ri_f7b : ∀ a, a < 7 → ∀ b, b < 7 → ∀ c, c < 7 → (ri_cs3 (ri_tbD [a + 1, b + 1, c + 1])).length ≤ 2 := by decide +kernel
theorem ri_f7c : ∀ a, a < 7 → ∀ b, b < 7 → ∀ c, c < 7 → (ri_K (ri_cs3 (ri_tbD [a + 1, b + 1, c + 1])) 1 = -4 → ri_v1 (nI (a + 1)) (nI (b + 1)) (nI (c + 1)) = 0 ∧ ri_v2 (nI (a + 1)) (nI (b + 1)) (nI (c + 1)) = 0) := by decide +kernel
theorem ri_f7d : ∀ a, a < 7 → ∀ b, b < 7 → ∀ c, c < 7 → (ri_K (ri_cs3 (ri_tbD [a + 1, b + 1, c + 1])) 1 = -4 ∨ ¬ (ri_v1 (nI (a + 1)) (nI (b + 1)) (nI (c + 1)) = 0 ∧ ri_v2 (nI (a + 1)) (nI (b + 1)) (nI (c + 1)) = 0)) := by decide +kernel
theorem ri_f7e : ∀ a, a < 7 → ∀ b, b < 7 → ∀ c, c < 7 → (ri_K (ri_cs3 (ri_tbD [a + 1, b + 1, c + 1])) 1 = -4 ∨ ¬ ri_K (ri_cs3 (ri_tbD [a + 1, b + 1, c + 1])) 1 ≤ ri_K (ri_cs3 (ri_tbD [a + 1, b + 1, c + 1])) 0) := by decide +kernel
theorem ri_f7 {a b c : Nat} (ha : a < 7) (hb : b < 7) (hc : c < 7) : ri_run 3 100 3 [((ri_tbD [a + 1, b + 1, c + 1]), 0)] [] [] = some (ri_cs3 (ri_tbD [a + 1, b + 1, c + 1])) ∧ (ri_cs3 (ri_tbD [a + 1, b + 1, c + 1])).length ≤ 2 ∧
    (ri_K (ri_cs3 (ri_tbD [a + 1, b + 1, c + 1])) 1 = -4 → ri_v1 (nI (a + 1)) (nI (b + 1)) (nI (c + 1)) = 0 ∧ ri_v2 (nI (a + 1)) (nI (b + 1)) (nI (c + 1)) = 0) ∧ (¬ ri_K (ri_cs3 (ri_tbD [a + 1, b + 1, c + 1])) 1 = -4 → ¬ (ri_v1 (nI (a + 1)) (nI (b + 1)) (nI (c + 1)) = 0 ∧ ri_v2 (nI (a + 1)) (nI (b + 1)) (nI (c + 1)) = 0) ∧ ¬ ri_K (ri_cs3 (ri_tbD [a + 1, b + 1, c + 1])) 1 ≤ ri_K (ri_cs3 (ri_tbD [a + 1, b + 1, c + 1])) 0) :=
  ⟨ri_some (ri_f7a a ha b hb c hc), ri_f7b a ha b hb c hc, ri_f7c a ha b hb c hc, fun z => ⟨(ri_f7d a ha b hb c hc).resolve_left z, (ri_f7e a ha b hb c hc).resolve_left z⟩⟩
/-- all that the law needs of the word a, b, c and its rows T -/
def ri_FF (a b c : Nat) (T : ri_T) (Cs : List Nat) : Prop :=
  a ≤ 7 ∧ b ≤ 7 ∧ c ≤ 7 ∧ ri_run 3 100 3 [(T, 0)] [] [] = some Cs ∧ Cs.length ≤ 2 ∧
  (ri_K Cs 1 = -4 → ri_v1 (nI a) (nI b) (nI c) = 0 ∧ ri_v2 (nI a) (nI b) (nI c) = 0) ∧
  (¬ ri_K Cs 1 = -4 → ¬ (ri_v1 (nI a) (nI b) (nI c) = 0 ∧ ri_v2 (nI a) (nI b) (nI c) = 0) ∧ ¬ ri_K Cs 1 ≤ ri_K Cs 0) ∧
  ri_m0 (nI a) (nI b) (nI c) = ri_v1 (nI a) (nI b) (nI c) ∧ ri_m1 (nI a) (nI b) (nI c) = ri_v2 (nI a) (nI b) (nI c) ∧
  ri_m0 (nI b) (nI a) (nI c) = ri_v1 (nI a) (nI b) (nI c) ∧ ri_m1 (nI a) (nI c) (nI b) = ri_v2 (nI a) (nI b) (nI c) ∧
  nI (ri_cd [a, b, c] 0) = 64 * nI a + 8 * nI b + nI c ∧ nI (ri_cd [b, a, c] 0) = 64 * nI b + 8 * nI a + nI c ∧ nI (ri_cd [a, c, b] 0) = 64 * nI a + 8 * nI c + nI b
theorem ri_FFof {a b c : Nat} (ha : a < 7) (hb : b < 7) (hc : c < 7) : ri_FF (a + 1) (b + 1) (c + 1) (ri_tbD [a + 1, b + 1, c + 1]) (ri_cs3 (ri_tbD [a + 1, b + 1, c + 1])) := by
  obtain ⟨g1, g2, g3, g4⟩ := ri_f7 ha hb hc
  obtain ⟨k1, k2, k3, k4, k5⟩ := ri_f6 a ha b hb c hc
  exact ⟨by omega, by omega, by omega, g1, g2, g3, g4, k1, k2, k3, k4, k5, (ri_f6 b hb a ha c hc).2.2.2.2, (ri_f6 a ha c hc b hb).2.2.2.2⟩
section
variable {b1 b2 b3 b4 : Nat → Int32} {a b c : Nat} {T : ri_T}
theorem ri_p3 (h : ri_pw b1 b2 b3 b4 1 [a, b, c] T) : b1 1 = 3 ∧ b2 7 = nI a ∧ b2 8 = nI b ∧ b2 9 = nI c :=
  ⟨h.2.1, (h.2.2.1 0 (Nat.lt_add_left 2 Nat.one_pos)).2, (h.2.2.1 1 (Nat.lt_add_left 1 (Nat.lt_succ_self 1))).2, (h.2.2.1 2 (Nat.lt_succ_self 2)).2⟩
theorem ri_mk3 (ha : a ≤ 7) (hb : b ≤ 7) (hc : c ≤ 7) (h1 : b1 1 = 3) (hA : b2 7 = nI a) (hB : b2 8 = nI b) (hC : b2 9 = nI c) (hT : ri_mt b3 b4 1 T) : ri_pw b1 b2 b3 b4 1 [a, b, c] T := by
  refine ⟨show 3 ≤ 7 by decide, h1, fun i hi => ?_, hT⟩
  match i, hi with
  | 0, _ => exact ⟨ha, hA⟩
  | 1, _ => exact ⟨hb, hB⟩
  | 2, _ => exact ⟨hc, hC⟩
theorem ri_sw0 (ha : a ≤ 7) (hb : b ≤ 7) (hc : c ≤ 7) (h : ri_pw b1 b2 b3 b4 1 [a, b, c] T) : ri_pw b1 (upd (upd b2 7 (nI b)) 8 (nI a)) b3 b4 1 [b, a, c] T := by
  obtain ⟨h1, hA, hB, hC⟩ := ri_p3 h
  refine ri_mk3 hb ha hc h1 ?_ pk_us ?_ h.2.2.2
  · rw [pk_un (by decide)]
    exact pk_us
  · rw [pk_un (by decide), pk_un (by decide)]
    exact hC
theorem ri_sw1 (ha : a ≤ 7) (hb : b ≤ 7) (hc : c ≤ 7) (h : ri_pw b1 b2 b3 b4 1 [a, b, c] T) : ri_pw b1 (upd (upd b2 8 (nI c)) 9 (nI b)) b3 b4 1 [a, c, b] T := by
  obtain ⟨h1, hA, hB, hC⟩ := ri_p3 h
  refine ri_mk3 ha hc hb h1 ?_ ?_ pk_us h.2.2.2
  · rw [pk_un (by decide), pk_un (by decide)]
    exact hA
  · rw [pk_un (by decide)]
    exact pk_us
end
end
section
/-- whether the move is legal -/
def ri_LG (x5 x20 v1 v2 : Int32) : Prop :=
  (x20 = 0 ∧ x5 = 0 ∧ v1 = 0) ∨ (x20 = 0 ∧ x5 = 1 ∧ v2 = 0) ∨ (x20 = 0 ∧ ¬ x5 = 0 ∧ ¬ x5 = 1) ∨ (x20 = 1 ∧ x5 = 0 ∧ ¬ v1 = 0) ∨ (x20 = 1 ∧ x5 = 1 ∧ ¬ v2 = 0)
section
variable {post : Int32 → St0 → Prop} {mc ms kc ks : Nat} {x5 x20 x21 x22 g : Int32} {b1 b2 b3 b4 b5 b6 b7 b8 b9 : Nat → Int32} {a b c : Nat} {T : ri_T} {Cs : List Nat}
theorem ri_1018n (hF : ri_FF a b c T Cs) (hP : ri_pw b1 b2 b3 b4 1 [a, b, c] T) (H : post 1 ()) : wL_lawOf_1018 post mc ms x5 (nI a) (nI b) (nI c) 0 x21 x22 (-4) (-4) kc ks g b1 b2 b3 b4 b5 b6 b7 b8 b9 := by
  obtain ⟨ha, hb, hc, f1, f2, f3, f4, m1, m2, m3, m4, c1, c2, c3⟩ := hF
  exact br_t rfl (ri_codeL (w := 1) (by decide) hP (br_t rfl (br_t c1 (br_t rfl H))))
theorem ri_1018a (hF : ri_FF a b c T Cs) (hP : ri_pw b1 b2 b3 b4 1 [b, a, c] T) (hv : ¬ ri_v1 (nI a) (nI b) (nI c) = 0) (H : post 1 ()) : wL_lawOf_1018 post mc ms 0 (nI a) (nI b) (nI c) 1 (ri_K Cs 0) (ri_K Cs 1) 1 1 kc ks g b1 b2 b3 b4 b5 b6 b7 b8 b9 := by
  obtain ⟨ha, hb, hc, f1, f2, f3, f4, m1, m2, m3, m4, c1, c2, c3⟩ := hF
  obtain ⟨h1, hA, hB, hC⟩ := ri_p3 hP
  refine br_t rfl (ri_codeL (w := 1) (by decide) hP (br_f (by decide) (br_t rfl (br_t c2 (br_f (by decide) ?_)))))
  refine ri_kinAtL (w := 1) (q := 0) (by decide) hP f1 (by omega) (by decide) (fun g c5 c6 c7 c8 c9 => br_t rfl ?_)
  refine ri_kinAtL (w := 1) (q := 1) (by decide) hP f1 (by omega) (by decide) (fun g d5 d6 d7 d8 d9 => br_t rfl ?_)
  exact ri_exch0 h1 hb ha hA hB hC (by rw [m3]; exact hv) (br_t rfl (ri_codeL (w := 1) (by decide) (ri_sw0 hb ha hc hP) (br_t c1 H)))
theorem ri_1018b (hF : ri_FF a b c T Cs) (hP : ri_pw b1 b2 b3 b4 1 [a, c, b] T) (hv : ¬ ri_v2 (nI a) (nI b) (nI c) = 0) (H : post 1 ()) : wL_lawOf_1018 post mc ms 1 (nI a) (nI b) (nI c) 1 (ri_K Cs 0) (ri_K Cs 1) 1 1 kc ks g b1 b2 b3 b4 b5 b6 b7 b8 b9 := by
  obtain ⟨ha, hb, hc, f1, f2, f3, f4, m1, m2, m3, m4, c1, c2, c3⟩ := hF
  obtain ⟨h1, hA, hB, hC⟩ := ri_p3 hP
  refine br_t rfl (ri_codeL (w := 1) (by decide) hP (br_f (by decide) (br_f (by decide) (br_t c3 (br_f (by decide) ?_)))))
  refine ri_kinAtL (w := 1) (q := 0) (by decide) hP f1 (by omega) (by decide) (fun g c5 c6 c7 c8 c9 => br_t rfl ?_)
  refine ri_kinAtL (w := 1) (q := 1) (by decide) hP f1 (by omega) (by decide) (fun g d5 d6 d7 d8 d9 => br_t rfl ?_)
  exact ri_exch1 h1 hc hb hA hB hC (by rw [m4]; exact hv) (br_t rfl (ri_codeL (w := 1) (by decide) (ri_sw1 ha hc hb hP) (br_t c1 H)))
theorem ri_973 (hF : ri_FF a b c T Cs) (hP : ri_pw b1 b2 b3 b4 1 [a, b, c] T) (hL : ri_LG x5 x20 (ri_v1 (nI a) (nI b) (nI c)) (ri_v2 (nI a) (nI b) (nI c))) (H : post 1 ()) :
    wL_lawOf_973 post mc ms x5 (nI a) (nI b) (nI c) x20 (ri_K Cs 0) (ri_K Cs 1) kc ks g b1 b2 b3 b4 b5 b6 b7 b8 b9 := by
  have hF' := hF
  obtain ⟨ha, hb, hc, f1, f2, f3, f4, m1, m2, m3, m4, c1, c2, c3⟩ := hF'
  obtain ⟨h1, hA, hB, hC⟩ := ri_p3 hP
  refine ri_kinAtL (w := 1) (q := 2) (by decide) hP f1 (by omega) (by decide) (fun g c5 c6 c7 c8 c9 => br_t (if_neg (by omega)) ?_)
  refine ri_kinAtm (w := 1) (by decide) (br_t rfl ?_)
  rcases hL with ⟨e1, e2, e3⟩ | ⟨e1, e2, e3⟩ | ⟨e1, e2, e3⟩ | ⟨e1, e2, e3⟩ | ⟨e1, e2, e3⟩
  · subst e1 e2
    exact ri_move0 h1 ha hb hA hB hC (fun _ => br_t rfl (ri_1018n hF hP H)) (fun z => absurd (m1.trans e3) z)
  · subst e1 e2
    exact ri_move1 h1 hb hc hA hB hC (fun _ => br_t rfl (ri_1018n hF hP H)) (fun z => absurd (m2.trans e3) z)
  · subst e1
    exact ri_moveN h1 e2 e3 (br_t rfl (ri_1018n hF hP H))
  · subst e1 e2
    exact ri_move0 h1 ha hb hA hB hC (fun z => absurd (m1.symm.trans z) e3) (fun _ => br_f (by decide) (ri_1018a hF (ri_sw0 ha hb hc hP) e3 H))
  · subst e1 e2
    exact ri_move1 h1 hb hc hA hB hC (fun z => absurd (m2.symm.trans z) e3) (fun _ => br_f (by decide) (ri_1018b hF (ri_sw1 ha hb hc hP) e3 H))
theorem ri_909 (hF : ri_FF a b c T Cs) (hP : ri_pw b1 b2 b3 b4 1 [a, b, c] T) (hL : ri_LG x5 x20 (ri_v1 (nI a) (nI b) (nI c)) (ri_v2 (nI a) (nI b) (nI c))) (H : post 1 ()) :
    wL_lawOf_909 post mc ms x5 (nI a) (nI b) (nI c) (ri_v1 (nI a) (nI b) (nI c)) (ri_v2 (nI a) (nI b) (nI c)) x20 kc ks g b1 b2 b3 b4 b5 b6 b7 b8 b9 := by
  have hF' := hF
  obtain ⟨ha, hb, hc, f1, f2, f3, f4, m1, m2, m3, m4, c1, c2, c3⟩ := hF'
  refine ri_kinAtL (w := 1) (q := 0) (by decide) hP f1 (by omega) (by decide) (fun g c5 c6 c7 c8 c9 => ?_)
  refine ri_kinAtL (w := 1) (q := 1) (by decide) hP f1 (by omega) (by decide) (fun g d5 d6 d7 d8 d9 => ?_)
  refine br_c (fun (z : ri_K Cs 1 = -4) => ?_) (fun (z : ¬ ri_K Cs 1 = -4) => ?_)
  · obtain ⟨k1, k2⟩ := f3 z
    exact br_t k1 (br_t k2 (br_t rfl (br_t z (ri_973 hF hP hL H))))
  · obtain ⟨k1, k2⟩ := f4 z
    have R : wL_lawOf_956 post mc ms x5 (nI a) (nI b) (nI c) x20 (ri_K Cs 0) (ri_K Cs 1) 0 0 kc ks g b1 b2 b3 b4 d5 d6 d7 d8 d9 := br_t rfl (br_f z (br_f k2 (ri_973 hF hP hL H)))
    exact br_c (fun y1 => br_f (fun y2 => k1 ⟨y1, y2⟩) R) (fun _ => R)
theorem ri_844 {z0 z1 : Int32} (hF : ri_FF a b c T Cs) (hP : ri_pw b1 b2 b3 b4 1 [a, b, c] T) (s3 : ri_sum T 3 0 = 3) (m3 : ri_sml T 3 7 0 = 3) (H : post 1 ()) :
    wL_lawOf_844 post mc ms x5 (nI a) (nI b) (nI c) (ri_v1 (nI a) (nI b) (nI c)) (ri_v2 (nI a) (nI b) (nI c)) z0 z1 (z1 + z0) kc ks g b1 b2 b3 b4 b5 b6 b7 b8 b9 := by
  refine br_t rfl (ri_risingL (w := 1) (K := 3) (by decide) (by decide) hP.2.2.2 (br_t (by rw [s3]; rfl) (ri_fallingL (w := 1) (K := 3) (by decide) (by decide) hP.2.2.2 (br_t (by rw [m3]; rfl) (ri_rising4 (w := 1) (by decide) (br_t rfl ?_))))))
  by_cases h0 : x5 = 0
  · have h1 : ¬ x5 = 1 := fun z => absurd (h0.symm.trans z) (by decide)
    exact br_t h0 (br_c (fun y => br_f h1 (ri_909 hF hP (Or.inl ⟨rfl, h0, y⟩) H)) (fun y => ri_909 hF hP (Or.inr (Or.inr (Or.inr (Or.inl ⟨rfl, h0, y⟩)))) H))
  · refine br_f h0 ?_
    by_cases h1 : x5 = 1
    · exact br_t h1 (br_c (fun y => ri_909 hF hP (Or.inr (Or.inl ⟨rfl, h1, y⟩)) H) (fun y => ri_909 hF hP (Or.inr (Or.inr (Or.inr (Or.inr ⟨rfl, h1, y⟩)))) H))
    · exact br_f h1 (ri_909 hF hP (Or.inr (Or.inr (Or.inl ⟨rfl, h0, h1⟩))) H)
end
section
variable {post : Int32 → St0 → Prop} {mc ms kc ks : Nat} {x5 g : Int32} {b1 b2 b3 b4 b5 b6 b7 b8 b9 : Nat → Int32} {a b c : Nat}
theorem ri_775 {z0 : Int32} (ha : a < 7) (hb : b < 7) (hc : c < 7) (hP : ri_pw b1 b2 b3 b4 1 [a + 1, b + 1, c + 1] (ri_tbD [a + 1, b + 1, c + 1])) (H : post 1 ()) :
    wL_lawOf_775 post mc ms x5 (nI (a + 1)) (nI (b + 1)) (nI (c + 1)) (ri_v1 (nI (a + 1)) (nI (b + 1)) (nI (c + 1))) (ri_v2 (nI (a + 1)) (nI (b + 1)) (nI (c + 1))) (ri_rs (nI (a + 1)) (nI (b + 1)) (nI (c + 1))) z0 z0 kc ks g b1 b2 b3 b4 b5 b6 b7 b8 b9 := by
  have hF := ri_FFof ha hb hc
  obtain ⟨q1, q2, q3, q4, q5, q6⟩ := ri_f4 a ha b hb c hc
  refine br_t rfl (ri_risL (w := 1) (n := 3) (by decide) hP (Nat.le_refl 3) (ri_f3 ha hb hc).2 (ri_f3 ha hb hc).2 (fun c3 c4 hp _ => br_t q1 ?_))
  obtain ⟨h1, hA, hB, hC⟩ := ri_p3 hp
  refine ri_ris4 h1 (br_t rfl (ri_rism (w := 1) (by decide) (br_t rfl (ri_desL h1 hA hB hC (br_c (fun y1 => br_c (fun y2 => ?_) (fun y2 => ?_)) (fun y1 => br_c (fun y2 => ?_) (fun y2 => ?_)))))))
  · rw [if_pos y1, if_pos y2]
    exact ri_844 hF hp q4 q5 H
  · rw [if_pos y1, if_neg y2]
    exact ri_844 hF hp q4 q5 H
  · rw [if_neg y1, if_pos y2]
    exact ri_844 hF hp q4 q5 H
  · rw [if_neg y1, if_neg y2]
    exact ri_844 hF hp q4 q5 H
theorem ri_717 {z0 : Int32} (ha : a < 7) (hb : b < 7) (hc : c < 7) (hP : ri_pw b1 b2 b3 b4 1 [a + 1, b + 1, c + 1] (ri_tbD [a + 1, b + 1, c + 1])) (H : post 1 ()) :
    wL_lawOf_717 post mc ms x5 (nI (a + 1)) (nI (b + 1)) (nI (c + 1)) (ri_v1 (nI (a + 1)) (nI (b + 1)) (nI (c + 1))) (ri_v2 (nI (a + 1)) (nI (b + 1)) (nI (c + 1))) (ri_rs (nI (a + 1)) (nI (b + 1)) (nI (c + 1))) (ri_fs (nI (a + 1)) (nI (b + 1)) (nI (c + 1))) z0 z0 kc ks g b1 b2 b3 b4 b5 b6 b7 b8 b9 := by
  obtain ⟨q1, q2, q3, q4, q5, q6⟩ := ri_f4 a ha b hb c hc
  obtain ⟨p1, p2, p3⟩ := ri_f2 a ha b hb
  refine br_t rfl (ri_risingL (w := 1) (K := 1) (by decide) (by decide) hP.2.2.2 (br_t q2 (ri_fallingL (w := 1) (K := 1) (by decide) (by decide) hP.2.2.2 (br_t q3 (ri_risingL (w := 1) (K := 0) (by decide) (by decide) hP.2.2.2 (br_t rfl (ri_risL (w := 1) (n := 2) (by decide) hP (show 2 ≤ 3 by decide) p2 (ri_f3 ha hb hc).2 (fun c3 c4 hp _ => br_c (fun y => ?_) (fun y => ?_)))))))))
  · rw [p3, if_pos y]
    exact ri_775 ha hb hc hp H
  · rw [p3, if_neg y]
    exact ri_775 ha hb hc hp H
theorem ri_694 (ha : a < 7) (hb : b < 7) (hc : c < 7) (hP : ri_pw b1 b2 b3 b4 1 [a + 1, b + 1, c + 1] (ri_tbD [a + 1, b + 1, c + 1])) (H : post 1 ()) :
    wL_lawOf_694 post mc ms x5 (nI (a + 1)) (nI (b + 1)) (nI (c + 1)) (ri_v1 (nI (a + 1)) (nI (b + 1)) (nI (c + 1))) (ri_v2 (nI (a + 1)) (nI (b + 1)) (nI (c + 1))) (ri_rs (nI (a + 1)) (nI (b + 1)) (nI (c + 1))) (ri_fs (nI (a + 1)) (nI (b + 1)) (nI (c + 1))) kc ks g b1 b2 b3 b4 b5 b6 b7 b8 b9 := by
  obtain ⟨q1, q2, q3, q4⟩ := ri_f5 a ha b hb c hc
  refine ri_kinL (w := 1) (A := (ri_kin (ri_tbD [a + 1, b + 1, c + 1]) 49 0 1 1 0).1) (B := (ri_kin (ri_tbD [a + 1, b + 1, c + 1]) 49 0 1 1 0).2) (by decide) hP.2.2.2 rfl q1 q2 q3 (br_c (fun y1 => br_c (fun y2 => ?_) (fun y2 => ?_)) (fun y1 => ?_))
  · rw [q4, if_pos y1, if_pos y2]
    exact ri_717 ha hb hc hP H
  · rw [q4, if_pos y1, if_neg y2]
    exact ri_717 ha hb hc hP H
  · rw [q4, if_neg y1]
    exact ri_717 ha hb hc hP H
end
/-! the law's chain of comparisons -/
section
variable {post : Int32 → St0 → Prop} {mc ms kc ks : Nat} {x5 A B C x12 x13 x14 x15 x16 x17 x18 z0 z1 g : Int32} {b1 b2 b3 b4 b5 b6 b7 b8 b9 : Nat → Int32}
theorem ri_c668 (H : wL_lawOf_694 post mc ms x5 A B C x16 x17 x18 (ri_fg A B C) kc ks g b1 b2 b3 b4 b5 b6 b7 b8 b9) : wL_lawOf_668 post mc ms x5 A B C x16 x17 x18 kc ks g b1 b2 b3 b4 b5 b6 b7 b8 b9 := by
  unfold ri_fg at H
  refine br_c (fun y => ?_) (fun y => br_c (fun y2 => ?_) (fun y2 => br_c (fun y3 => ?_) (fun y3 => ?_)))
  · rw [if_pos y] at H
    exact H
  · rw [if_neg y, if_pos y2] at H
    exact H
  · rw [if_neg y, if_neg y2, if_pos y3] at H
    exact H
  · rw [if_neg y, if_neg y2, if_neg y3] at H
    exact H
theorem ri_c648 (H : wL_lawOf_694 post mc ms x5 A B C x16 x17 z0 (ri_fs A B C) kc ks g b1 b2 b3 b4 b5 b6 b7 b8 b9) : wL_lawOf_648 post mc ms x5 A B C x16 x17 z0 kc ks g b1 b2 b3 b4 b5 b6 b7 b8 b9 := by
  unfold ri_fs at H
  refine br_c (fun y => ?_) (fun y => br_c (fun y2 => ?_) (fun y2 => ?_))
  · rw [if_pos y] at H
    exact ri_c668 H
  · rw [if_neg y, if_pos y2] at H
    exact ri_c668 H
  · rw [if_neg y, if_neg y2] at H
    exact H
theorem ri_c613 (H : wL_lawOf_648 post mc ms x5 A B C x16 x17 (if z1 + z0 = 2 then 3 else if A ≤ B then 2 else if B ≤ C then 2 else if C < A then 1 else 2) kc ks g b1 b2 b3 b4 b5 b6 b7 b8 b9) : wL_lawOf_613 post mc ms x5 A B C x16 x17 z0 z1 kc ks g b1 b2 b3 b4 b5 b6 b7 b8 b9 := by
  refine br_c (fun y => ?_) (fun y => br_c (fun y2 => ?_) (fun y2 => br_c (fun y3 => ?_) (fun y3 => br_c (fun y4 => ?_) (fun y4 => ?_))))
  · rw [if_pos y] at H
    exact H
  · rw [if_neg y, if_pos y2] at H
    exact H
  · rw [if_neg y, if_neg y2, if_pos y3] at H
    exact H
  · rw [if_neg y, if_neg y2, if_neg y3, if_pos y4] at H
    exact H
  · rw [if_neg y, if_neg y2, if_neg y3, if_neg y4] at H
    exact H
theorem ri_c601 (H : wL_lawOf_613 post mc ms x5 A B C x16 x17 (if C < B then 0 else 1) z0 kc ks g b1 b2 b3 b4 b5 b6 b7 b8 b9) : wL_lawOf_601 post mc ms x5 A B C x16 x17 z0 kc ks g b1 b2 b3 b4 b5 b6 b7 b8 b9 := by
  refine br_c (fun y => ?_) (fun y => ?_)
  · rw [if_pos y] at H
    exact H
  · rw [if_neg y] at H
    exact H
theorem ri_c587 (H : wL_lawOf_601 post mc ms x5 A B C x16 z0 (if B < A then 0 else 1) kc ks g b1 b2 b3 b4 b5 b6 b7 b8 b9) : wL_lawOf_587 post mc ms x5 A B C x16 z0 kc ks g b1 b2 b3 b4 b5 b6 b7 b8 b9 := by
  refine br_c (fun y => ?_) (fun y => ?_)
  · rw [if_pos y] at H
    exact H
  · rw [if_neg y] at H
    exact H
theorem ri_c559 (H : wL_lawOf_587 post mc ms x5 A B C z0 (if A ≤ x14 then 0 else if x15 < A then 0 else if x15 ≤ x14 then 0 else 1) kc ks g b1 b2 b3 b4 b5 b6 b7 b8 b9) : wL_lawOf_559 post mc ms x5 A B C x14 x15 z0 kc ks g b1 b2 b3 b4 b5 b6 b7 b8 b9 := by
  refine br_c (fun y => ?_) (fun y => br_c (fun y2 => ?_) (fun y2 => br_c (fun y3 => ?_) (fun y3 => ?_)))
  · rw [if_pos y] at H
    exact H
  · rw [if_neg y, if_pos y2] at H
    exact H
  · rw [if_neg y, if_neg y2, if_pos y3] at H
    exact H
  · rw [if_neg y, if_neg y2, if_neg y3] at H
    exact H
theorem ri_c538 (H : wL_lawOf_559 post mc ms x5 A B C x14 z0 (if C < x12 then 0 else if x13 ≤ C then 0 else 1) kc ks g b1 b2 b3 b4 b5 b6 b7 b8 b9) : wL_lawOf_538 post mc ms x5 A B C x12 x13 x14 z0 kc ks g b1 b2 b3 b4 b5 b6 b7 b8 b9 := by
  refine br_c (fun y => ?_) (fun y => br_c (fun y2 => ?_) (fun y2 => ?_))
  · rw [if_pos y] at H
    exact H
  · rw [if_neg y, if_pos y2] at H
    exact H
  · rw [if_neg y, if_neg y2] at H
    exact H
theorem ri_c522 (H : wL_lawOf_538 post mc ms x5 A B C x12 x13 z0 (ri_hi B C) kc ks g b1 b2 b3 b4 b5 b6 b7 b8 b9) : wL_lawOf_522 post mc ms x5 A B C x12 x13 z0 kc ks g b1 b2 b3 b4 b5 b6 b7 b8 b9 := by
  unfold ri_hi at H
  refine br_c (fun y => ?_) (fun y => ?_)
  · rw [if_pos y] at H
    exact H
  · rw [if_neg y] at H
    exact H
theorem ri_c506 (H : wL_lawOf_522 post mc ms x5 A B C x12 z0 (ri_lo B C) kc ks g b1 b2 b3 b4 b5 b6 b7 b8 b9) : wL_lawOf_506 post mc ms x5 A B C x12 z0 kc ks g b1 b2 b3 b4 b5 b6 b7 b8 b9 := by
  unfold ri_lo at H
  refine br_c (fun y => ?_) (fun y => ?_)
  · rw [if_pos y] at H
    exact H
  · rw [if_neg y] at H
    exact H
theorem ri_c490 (H : wL_lawOf_506 post mc ms x5 A B C z0 (ri_hi A B) kc ks g b1 b2 b3 b4 b5 b6 b7 b8 b9) : wL_lawOf_490 post mc ms x5 A B C z0 kc ks g b1 b2 b3 b4 b5 b6 b7 b8 b9 := by
  unfold ri_hi at H
  refine br_c (fun y => ?_) (fun y => ?_)
  · rw [if_pos y] at H
    exact H
  · rw [if_neg y] at H
    exact H
theorem ri_chain (H : wL_lawOf_694 post mc ms x5 A B C (ri_v1 A B C) (ri_v2 A B C) (ri_rs A B C) (ri_fs A B C) kc ks g b1 b2 b3 b4 b5 b6 b7 b8 b9) : wL_lawOf_490 post mc ms x5 A B C (ri_lo A B) kc ks g b1 b2 b3 b4 b5 b6 b7 b8 b9 := by
  unfold ri_v1 ri_v2 ri_rs at H
  exact ri_c490 (ri_c506 (ri_c522 (ri_c538 (ri_c559 (ri_c587 (ri_c601 (ri_c613 (ri_c648 H))))))))
end
section
variable {post : Int32 → St0 → Prop} {mc ms kc ks : Nat} {x5 g : Int32} {b1 b2 b3 b4 b5 b6 b7 b8 b9 : Nat → Int32} {a b c : Nat}
theorem ri_402 {z0 : Int32} (ha : a < 7) (hb : b < 7) (hc : c < 7) (hP : ∀ v, v < 2 → ri_pw b1 b2 b3 b4 v [] ri_E0) (H : post 1 ()) :
    wL_lawOf_402 post mc ms x5 (nI (a + 1)) (nI (b + 1)) (nI (c + 1)) z0 z0 kc ks g b1 b2 b3 b4 b5 b6 b7 b8 b9 := by
  refine br_t rfl (ri_addL (w := 1) (x := a + 1) (by decide) (hP 1 (by decide)) (by decide) (by omega) (by omega) (ri_f1 a ha).1 (fun c1 c2 c3 c4 hp fr => br_t rfl ?_))
  refine ri_addL (w := 1) (W := [a + 1]) (x := b + 1) (by decide) hp (show 1 < 7 by decide) (by omega) (by omega) (ri_f2 a ha b hb).1 (fun d1 d2 d3 d4 hp2 fr2 => br_t rfl ?_)
  refine ri_addL (w := 1) (W := [a + 1, b + 1]) (x := c + 1) (by decide) hp2 (show 2 < 7 by decide) (by omega) (by omega) (ri_f3 ha hb hc).1 (fun e1 e2 e3 e4 hp3 fr3 => br_t rfl ?_)
  have hq : ri_pw e1 e2 e3 e4 1 [a + 1, b + 1, c + 1] (ri_tbD [a + 1, b + 1, c + 1]) := hp3
  have h0 : ri_pw e1 e2 e3 e4 0 [] ri_E0 := ri_fr_pw fr3 (by decide) (ri_fr_pw fr2 (by decide) (ri_fr_pw fr (by decide) (hP 0 (by decide))))
  have hF := ri_FFof ha hb hc
  obtain ⟨q1, q2, q3, q4, q5, q6⟩ := ri_f4 a ha b hb c hc
  refine ri_codeL (w := 1) (by decide) hq (br_t hF.2.2.2.2.2.2.2.2.2.2.2.1 (ri_relatedN (fun r hr => ?_) ?_ (br_t rfl ?_)))
  · have := (h0.2.2.2.2 r hr).2.1
    rw [ri_E0row, Nat.mul_zero, Nat.zero_add] at this
    exact this
  · obtain ⟨k1, k2, _⟩ := hq.2.2.2.2 0 (by decide)
    have k2' : e4 7 = nI (ri_row (ri_tbD [a + 1, b + 1, c + 1]) 0).length := k2
    rw [k2']
    exact nI_ne0 q6 (by omega)
  · have R := ri_chain (ri_694 (post := post) (mc := mc) (ms := ms) (x5 := x5) (kc := kc) (ks := ks) (g := g) (b5 := b5) (b6 := b6) (b7 := b7) (b8 := b8) (b9 := b9) ha hb hc hq H)
    unfold ri_lo at R
    refine br_c (fun y => ?_) (fun y => ?_)
    · rw [if_pos y] at R
      exact R
    · rw [if_neg y] at R
      exact R
end
end
section
/-! a bad word number: -1, and nothing is changed -/
section
variable {u : St2} {p : Int32}
theorem ri_xkin {post : Int32 → Prop} (h0 : ¬ p = 0) (h1 : ¬ p = 1) (H : post (-1)) : wpX_kin post u p := by
  obtain ⟨f, a1, a2, a3, a4, a5, a6, a7, a8, a9⟩ := u
  unfold wpX_kin
  dsimp only
  exact ri_bw1 h0 h1 (br_f (by decide) H)
theorem ri_xcode {post : Int32 → Prop} (h0 : ¬ p = 0) (h1 : ¬ p = 1) (H : post (-1)) : wpX_code post u p := by
  obtain ⟨f, a1, a2, a3, a4, a5, a6, a7, a8, a9⟩ := u
  unfold wpX_code
  dsimp only
  exact ri_bw1 h0 h1 (br_f (by decide) H)
theorem ri_xrising {post : Int32 → Prop} {q : Int32} (h0 : ¬ p = 0) (h1 : ¬ p = 1) (H : post (-1)) : wpX_rising post u p q := by
  obtain ⟨f, a1, a2, a3, a4, a5, a6, a7, a8, a9⟩ := u
  unfold wpX_rising
  dsimp only
  exact ri_bw1 h0 h1 (br_f (by decide) H)
theorem ri_xfalling {post : Int32 → Prop} {q : Int32} (h0 : ¬ p = 0) (h1 : ¬ p = 1) (H : post (-1)) : wpX_falling post u p q := by
  obtain ⟨f, a1, a2, a3, a4, a5, a6, a7, a8, a9⟩ := u
  unfold wpX_falling
  dsimp only
  exact ri_bw1 h0 h1 (br_f (by decide) H)
theorem ri_xletter {post : Int32 → Prop} {q : Int32} (h0 : ¬ p = 0) (h1 : ¬ p = 1) (H : post (-1)) : wpX_letter post u p q := by
  obtain ⟨f, a1, a2, a3, a4, a5, a6, a7, a8, a9⟩ := u
  unfold wpX_letter
  dsimp only
  exact ri_bw1 h0 h1 (br_f (by decide) H)
theorem ri_xkinAt {post : Int32 → St2 → Prop} {q : Int32} (h0 : ¬ p = 0) (h1 : ¬ p = 1) (H : post (-1) u) : wpX_kinAt post u p q := by
  obtain ⟨f, a1, a2, a3, a4, a5, a6, a7, a8, a9⟩ := u
  unfold wpX_kinAt
  dsimp only
  exact ri_bw1 h0 h1 (br_f (by decide) H)
theorem ri_xdrop {post : Int32 → St2 → Prop} (h0 : ¬ p = 0) (h1 : ¬ p = 1) (H : post (-1) u) : wpX_drop post u p := by
  obtain ⟨f, a1, a2, a3, a4, a5, a6, a7, a8, a9⟩ := u
  unfold wpX_drop
  dsimp only
  exact ri_bw1 h0 h1 (br_f (by decide) H)
theorem ri_xrisingOf {post : Int32 → St2 → Prop} {q : Int32} (h0 : ¬ p = 0) (h1 : ¬ p = 1) (H : post (-1) u) : wpX_risingOf post u p q := by
  obtain ⟨f, a1, a2, a3, a4, a5, a6, a7, a8, a9⟩ := u
  unfold wpX_risingOf
  dsimp only
  exact ri_bw1 h0 h1 (br_f (by decide) H)
theorem ri_xturn {post : Int32 → St2 → Prop} (h0 : ¬ p = 0) (h1 : ¬ p = 1) (H : post (-1) u) : wpX_turn post u p := by
  obtain ⟨f, a1, a2, a3, a4, a5, a6, a7, a8, a9⟩ := u
  unfold wpX_turn
  dsimp only
  exact ri_bw1 h0 h1 (br_f (by decide) H)
theorem ri_xadd {post : Int32 → St2 → Prop} {q : Int32} (h0 : ¬ p = 0) (h1 : ¬ p = 1) (H : post (-1) u) : wpX_add post u p q := by
  obtain ⟨f, a1, a2, a3, a4, a5, a6, a7, a8, a9⟩ := u
  unfold wpX_add
  dsimp only
  exact ri_bw1 h0 h1 (br_f (by decide) H)
theorem ri_xexchange {post : Int32 → St2 → Prop} {q : Int32} (h0 : ¬ p = 0) (h1 : ¬ p = 1) (H : post (-1) u) : wpX_exchange post u p q := by
  obtain ⟨f, a1, a2, a3, a4, a5, a6, a7, a8, a9⟩ := u
  unfold wpX_exchange
  dsimp only
  exact ri_bw1 h0 h1 (br_f (by decide) H)
end
theorem ri_addx {post : Int32 → St2 → Prop} {f : Int32} {a1 a2 a3 a4 a5 a6 a7 a8 a9 : Nat → Int32} {w : Nat} {q : Int32} (hw : w < 2) (hq : q < 1 ∨ 7 < q) (H : post (-1) (f, a1, a2, a3, a4, a5, a6, a7, a8, a9)) :
    wpX_add post (f, a1, a2, a3, a4, a5, a6, a7, a8, a9) (nI w) q := by
  unfold wpX_add
  dsimp only
  refine ri_bw0 hw (br_t rfl (br_c (fun _ => H) (fun z => br_f (fun z2 => ?_) H)))
  rcases hq with h | h
  · exact z h
  · rw [Int32.lt_iff_toInt_lt] at h
    rw [Int32.le_iff_toInt_le] at z2
    omega
/-- a letter of the law -/
theorem ri_abc (x : Int32) : ∃ a : Nat, a < 7 ∧ 1 + ((x &&& 127) - (x &&& 127) / 7 * 7) = nI (a + 1) := by
  obtain ⟨j, hj, e⟩ := pk_andE x (m := 127) 7 (by decide)
  refine ⟨j % 7, Nat.mod_lt _ (by decide), ?_⟩
  rw [e, show (nI j - nI j / 7 * 7 : Int32) = nI (j % 7) from pk_rem (d := 7) (by omega) (by decide) (by decide), show (1 : Int32) = nI 1 from rfl, nI_add, Nat.add_comm]
theorem ri_bth {w : Nat} {a1 a2 a3 a4 b1 b2 b3 b4 : Nat → Int32} (h : ∀ v, v < 2 → ri_pw a1 a2 a3 a4 v [] ri_E0) (h' : ri_pw b1 b2 b3 b4 w [] ri_E0) (fr : ri_fr w a1 a2 a3 a4 b1 b2 b3 b4) : ∀ v, v < 2 → ri_pw b1 b2 b3 b4 v [] ri_E0 := by
  intro v hv
  by_cases e : v = w
  · subst e
    exact h'
  · exact ri_fr_pw fr e (h v hv)
theorem ri_frt {w : Nat} {a1 a2 a3 a4 b1 b2 b3 b4 c1 c2 c3 c4 : Nat → Int32} (h : ri_fr w a1 a2 a3 a4 b1 b2 b3 b4) (k : ri_fr w b1 b2 b3 b4 c1 c2 c3 c4) : ri_fr w a1 a2 a3 a4 c1 c2 c3 c4 := by
  obtain ⟨h1, h2, h3, h4⟩ := h
  obtain ⟨k1, k2, k3, k4⟩ := k
  exact ⟨fun j hj => (k1 j hj).trans (h1 j hj), fun j hj => (k2 j hj).trans (h2 j hj), fun j hj => (k3 j hj).trans (h3 j hj), fun j hj => (k4 j hj).trans (h4 j hj)⟩
theorem ri_len0 {b1 b2 b3 b4 : Nat → Int32} (h : ∀ v, v < 2 → ri_pw b1 b2 b3 b4 v [] ri_E0) : (∀ r, r < 7 → b4 r = 0) ∧ (∀ r, r < 7 → b4 (7 + r) = 0) := by
  refine ⟨fun r hr => ?_, fun r hr => ?_⟩
  · have := ((h 0 (by decide)).2.2.2.2 r hr).2.1
    rw [ri_E0row, Nat.mul_zero, Nat.zero_add] at this
    exact this
  · have := ((h 1 (by decide)).2.2.2.2 r hr).2.1
    rw [ri_E0row, Nat.mul_one] at this
    exact this
theorem ri_t8 : ∀ x, x < 7 → ri_tb [8 - (x + 1)] ri_E0 = some (ri_tbD [8 - (x + 1)]) ∧ nI (8 - (x + 1)) = 8 - nI (x + 1) := by decide +kernel
section
variable {post : Int32 → St0 → Prop} {mc ms kc ks : Nat} {x1 x5 g : Int32} {b1 b2 b3 b4 b5 b6 b7 b8 b9 : Nat → Int32} {a b c w : Nat}
/-- a good word, the letter tried: good (x8 = 1) -/
theorem ri_238g {z0 : Int32} {x : Nat} (ha : a < 7) (hb : b < 7) (hc : c < 7) (hw : w < 2) (hx : x < 7) (hP : ∀ v, v < 2 → ri_pw b1 b2 b3 b4 v [] ri_E0) (H : post 1 ()) :
    wL_lawOf_238 post mc ms (nI w) (nI (x + 1)) x5 1 1 (nI (a + 1)) (nI (b + 1)) (nI (c + 1)) z0 z0 kc ks g b1 b2 b3 b4 b5 b6 b7 b8 b9 := by
  refine br_t rfl (ri_addL (w := w) (x := x + 1) hw (hP w hw) (by decide) (by omega) (by omega) (ri_f1 x hx).1 (fun c1 c2 c3 c4 hp fr => br_f (by decide) ?_))
  have hp1 : ri_pw c1 c2 c3 c4 w [x + 1] (ri_tbD [x + 1]) := hp
  refine br_t rfl (ri_letter1 (x := nI (x + 1)) hw hp1.2.1 (hp1.2.2.1 0 Nat.one_pos).2 (br_f (by decide) ?_))
  refine br_t rfl (ri_codeL hw hp1 (br_f (by decide) ?_))
  refine br_t (by show nI (8 * 0 + (x + 1)) = nI (x + 1); rw [Nat.mul_zero, Nat.zero_add]) (ri_turn1 hw hp1 (by omega) (by omega) (ri_t8 x hx).1 (fun d2 d3 d4 hp2 fr2 => br_f (by decide) (br_f (by decide) ?_)))
  refine br_t rfl (ri_drop1 hw hp2 (fun e1 e3 e4 hp3 fr3 => br_f (by decide) ?_))
  refine br_t (ri_t8 x hx).2 (ri_exch hw hp3.2.1 (br_f (by decide) ?_))
  exact ri_402 ha hb hc (ri_bth hP hp3 (ri_frt fr (ri_frt fr2 fr3))) H
/-- the letter is bad -/
theorem ri_238b {z0 : Int32} (ha : a < 7) (hb : b < 7) (hc : c < 7) (hw : w < 2) (hx : x1 < 1 ∨ 7 < x1) (hP : ∀ v, v < 2 → ri_pw b1 b2 b3 b4 v [] ri_E0) (H : post 1 ()) :
    wL_lawOf_238 post mc ms (nI w) x1 x5 1 0 (nI (a + 1)) (nI (b + 1)) (nI (c + 1)) z0 z0 kc ks g b1 b2 b3 b4 b5 b6 b7 b8 b9 := by
  have hp := hP w hw
  refine br_t rfl (ri_addx hw hx (br_t rfl ?_))
  refine br_t rfl (ri_letter0 hw hp.2.1 (br_t rfl (br_f (by decide) ?_)))
  refine br_t rfl (ri_codeL hw hp (br_t rfl (br_f (by decide) ?_)))
  refine br_t rfl (ri_turn0 hw hp (fun d3 d4 hp2 fr2 => br_f (by decide) (br_t rfl ?_)))
  refine br_t rfl (ri_drop0 hw hp2.2.1 (br_t rfl (br_f (by decide) ?_)))
  refine br_t rfl (ri_exch hw hp2.2.1 (br_f (by decide) ?_))
  exact ri_402 ha hb hc (ri_bth hP hp2 fr2) H
/-- a good word: all up to the first letter -/
theorem ri_98g {x8 : Int32} (hw : w < 2) (hP : ∀ v, v < 2 → ri_pw b1 b2 b3 b4 v [] ri_E0)
    (H : ∀ g c3 c4 c5 c6 c7 c8 c9, (∀ v, v < 2 → ri_pw b1 b2 c3 c4 v [] ri_E0) → wL_lawOf_238 post mc ms (nI w) x1 x5 1 x8 (nI (a + 1)) (nI (b + 1)) (nI (c + 1)) 0 0 kc ks g b1 b2 c3 c4 c5 c6 c7 c8 c9) :
    wL_lawOf_98 post mc ms (nI w) x1 x5 1 x8 (nI (a + 1)) (nI (b + 1)) (nI (c + 1)) 1 1 kc ks g b1 b2 b3 b4 b5 b6 b7 b8 b9 := by
  have hp := hP w hw
  refine br_t rfl (ri_kinAtL (w := w) (q := 0) (C := [0]) hw hp (by decide) (by decide) (by decide) (fun g c5 c6 c7 c8 c9 => br_f (by decide) ?_))
  refine br_t rfl (ri_codeL hw hp (br_f (by decide) ?_))
  refine br_t rfl (ri_drop0 hw hp.2.1 (br_f (by decide) ?_))
  refine br_t rfl (ri_relatedE (ri_len0 hP).1 (ri_len0 hP).2 (br_t rfl ?_))
  refine ri_risingL (w := w) (K := 3) hw (by decide) hp.2.2.2 (br_f (by decide) ?_)
  refine br_t rfl (ri_falling4 hw (br_t rfl ?_))
  refine ri_risL (w := w) (n := 0) hw hp (Nat.le_refl 0) rfl rfl (fun c3 c4 hp2 fr => br_f (by decide) ?_)
  refine br_t rfl (ri_turn0 hw hp2 (fun d3 d4 hp3 fr3 => br_f (by decide) ?_))
  exact H _ _ _ _ _ _ _ _ (ri_bth hP hp3 (ri_frt fr fr3))
/-- a bad word -/
theorem ri_98b {x0 : Int32} (h0 : ¬ x0 = 0) (h1 : ¬ x0 = 1) (ha : a < 7) (hb : b < 7) (hc : c < 7) (hP : ∀ v, v < 2 → ri_pw b1 b2 b3 b4 v [] ri_E0) (H : post 1 ()) :
    wL_lawOf_98 post mc ms x0 x1 x5 0 0 (nI (a + 1)) (nI (b + 1)) (nI (c + 1)) (-1) (-1) kc ks g b1 b2 b3 b4 b5 b6 b7 b8 b9 := by
  refine br_t rfl (ri_xkinAt h0 h1 (br_t rfl ?_))
  refine br_t rfl (ri_xcode h0 h1 (br_t rfl ?_))
  refine br_t rfl (ri_xdrop h0 h1 (br_t rfl ?_))
  refine br_t rfl (ri_relatedE (ri_len0 hP).1 (ri_len0 hP).2 (br_t rfl ?_))
  refine ri_xrising h0 h1 (br_t rfl ?_)
  refine br_t rfl (ri_xfalling h0 h1 (br_t rfl ?_))
  refine ri_xrisingOf h0 h1 (br_t rfl ?_)
  refine br_t rfl (ri_xturn h0 h1 (br_t rfl ?_))
  refine br_t rfl (ri_xadd h0 h1 (br_t rfl ?_))
  refine br_t rfl (ri_xletter h0 h1 (br_t rfl (br_t rfl ?_)))
  refine br_t rfl (ri_xcode h0 h1 (br_t rfl (br_t rfl ?_)))
  refine br_t rfl (ri_xturn h0 h1 (br_t rfl ?_))
  refine br_t rfl (ri_xdrop h0 h1 (br_t rfl (br_t rfl ?_)))
  refine br_t rfl (ri_xexchange h0 h1 (br_t rfl ?_))
  exact ri_402 ha hb hc hP H
end
section
variable {post : Int32 → St0 → Prop} {mc ms kc ks : Nat} {x0 x1 x2 x3 x4 x5 g : Int32} {b1 b2 b3 b4 b5 b6 b7 b8 b9 : Nat → Int32} {w : Nat}
theorem ri_46g {x8 : Int32} (hw : w < 2) (hx : (x8 = 0 ∧ (x1 < 1 ∨ 7 < x1)) ∨ (x8 = 1 ∧ ∃ x, x < 7 ∧ x1 = nI (x + 1))) (hP : ∀ v, v < 2 → ri_pw b1 b2 b3 b4 v [] ri_E0) (H : post 1 ()) :
    wL_lawOf_46 post mc ms (nI w) x1 x2 x3 x4 x5 1 x8 kc ks g b1 b2 b3 b4 b5 b6 b7 b8 b9 := by
  obtain ⟨a, ha, ea⟩ := ri_abc x2
  obtain ⟨b, hb, eb⟩ := ri_abc x3
  obtain ⟨c, hc, ec⟩ := ri_abc x4
  refine ⟨by decide, nm_r ea ⟨by decide, nm_r eb ⟨by decide, nm_r ec ?_⟩⟩⟩
  refine ri_kinL (w := w) (A := 1) (B := 1) hw (hP w hw).2.2.2 (by decide +kernel) (by decide) (by decide) (by decide) (br_f (by decide) ?_)
  refine ri_98g hw hP (fun g c3 c4 c5 c6 c7 c8 c9 hp => ?_)
  rcases hx with ⟨e, h⟩ | ⟨e, x, hx, e1⟩
  · subst e
    exact ri_238b ha hb hc hw h hp H
  · subst e e1
    exact ri_238g ha hb hc hw hx hp H
theorem ri_23b (h0 : ¬ x0 = 0) (h1 : ¬ x0 = 1) (hP : ∀ v, v < 2 → ri_pw b1 b2 b3 b4 v [] ri_E0) (H : post 1 ()) :
    wL_lawOf_23 post mc ms x0 x1 x2 x3 x4 x5 0 kc ks g b1 b2 b3 b4 b5 b6 b7 b8 b9 := by
  obtain ⟨a, ha, ea⟩ := ri_abc x2
  obtain ⟨b, hb, eb⟩ := ri_abc x3
  obtain ⟨c, hc, ec⟩ := ri_abc x4
  refine br_t rfl ⟨by decide, nm_r ea ⟨by decide, nm_r eb ⟨by decide, nm_r ec ?_⟩⟩⟩
  exact ri_xkin h0 h1 (br_t rfl (ri_98b h0 h1 ha hb hc hP H))
theorem ri_18 (hw : w < 2) (hP : ∀ v, v < 2 → ri_pw b1 b2 b3 b4 v [] ri_E0) (H : post 1 ()) :
    wL_lawOf_18 post mc ms (nI w) x1 x2 x3 x4 x5 kc ks g b1 b2 b3 b4 b5 b6 b7 b8 b9 := by
  refine br_f (by decide) (br_c (fun y => ri_46g hw (Or.inl ⟨rfl, Or.inl y⟩) hP H) (fun y => br_c (fun y2 => ri_46g hw (Or.inl ⟨rfl, Or.inr y2⟩) hP H) (fun y2 => ri_46g hw (Or.inr ⟨rfl, ?_⟩) hP H)))
  have n0 : ¬ x1 < 0 := fun z => y (by
    rw [Int32.lt_iff_toInt_lt] at z ⊢
    have e0 : (0 : Int32).toInt = 0 := by decide
    have e1 : (1 : Int32).toInt = 1 := by decide
    omega)
  obtain ⟨j, hj, e⟩ := nI_of n0
  rw [e, show (1 : Int32) = nI 1 from rfl, nI_ltI hj (by decide)] at y
  rw [e, show (7 : Int32) = nI 7 from rfl, nI_ltI (by decide) hj] at y2
  exact ⟨j - 1, by omega, by rw [e, Nat.sub_add_cancel (by omega)]⟩
end
theorem ri_cell {post : Int32 → Prop} {L : Nat} {xs : Nat → Int32} {k : Nat} (hL : L ≤ 6) (hk : k < 6) (H : ∀ r, post r) : wpL_cellAt post L xs () (nI k) :=
  pk_le L k (fun _ => H _) (fun z => ⟨pk_in k L z, H _⟩)
theorem ri_lawOf {post : Int32 → St0 → Prop} {p0 p1 p2 p3 p4 p5 : Int32} (H : post 1 ()) : wpL_lawOf post 134 2128 () p0 p1 p2 p3 p4 p5 := by
  have hP : ∀ v, v < 2 → ri_pw (fun _ => 0) (fun _ => 0) (fun _ => 0) (fun _ => 0) v [] ri_E0 := fun v hv => ⟨by decide, rfl, fun i hi => absurd hi (Nat.not_lt_zero i), ri_mt_0 (fun r hr => rfl)⟩
  refine ⟨by decide, by decide, 9, 656, by decide, by decide, ?_⟩
  refine ⟨by decide, by decide, by decide, by decide, by decide, by decide, by decide, by decide, by decide, by decide, by decide, by decide, by decide, by decide, by decide, by decide, by decide, by decide, ?_⟩
  refine br_c (fun y => ?_) (fun y => br_c (fun y2 => ?_) (fun y2 => ri_23b y y2 hP H))
  · subst y
    exact ri_18 (w := 0) (by decide) hP H
  · subst y2
    exact ri_18 (w := 1) (by decide) hP H
theorem i_vc (xs : Nat → Int32) (L : Nat) (hL : L ≤ 6) : wpL_law (fun r => r = 1) L xs := by
  unfold wpL_law
  exact ri_cell (k := 0) hL (by decide) (fun r1 => ri_cell (k := 1) hL (by decide) (fun r2 => ri_cell (k := 2) hL (by decide) (fun r3 => ri_cell (k := 3) hL (by decide) (fun r4 => ri_cell (k := 4) hL (by decide) (fun r5 => ri_cell (k := 5) hL (by decide) (fun r6 => ⟨134, 2128, by decide, by decide, ri_lawOf rfl⟩))))))
end

section
/-- a set of symbols allows a symbol -/
def rc_al (s b : Nat) : Bool := s / 2 ^ b % 2 == 1
/-- what one meeting hands on; l: how many rules are at work (0 or 1) -/
def rc_em (l kd fr it lf rt b h s : Nat) : List Nat :=
  if l = 0 then (if s = 4 then [] else [s])
  else if kd = 2 then (if rc_al lf b = true ∧ rc_al rt s = true then [it] else []) ++ (if s = 4 then [] else [s])
  else if h = 5 then []
  else if h = fr ∧ rc_al lf b = true ∧ rc_al rt s = true then (if kd = 0 then [it] else [])
  else [h]
def rc_nb (kd b h s : Nat) : Nat := if kd = 2 then s else if h = 5 then b else h
def rc_nh (kd h s : Nat) : Nat := if kd = 2 then h else if s = 4 then 5 else s
def rc_run (l kd fr it lf rt : Nat) : Nat → Nat → List Nat → List Nat
  | _, _, [] => []
  | b, h, s :: t => rc_em l kd fr it lf rt b h s ++ rc_run l kd fr it lf rt (rc_nb kd b h s) (rc_nh kd h s) t
def rc_cd (o : List Nat) : Nat := o.foldl (fun c d => 4 * c + d) 1
def rc_dig (o : List Nat) : Prop := ∀ d, d ∈ o → d < 4
def rc_ar (a : Nat → Int32) (o : List Nat) : Prop := ∀ j, j < o.length → a j = nI (o.getD j 0)
theorem rc_em_len {l kd fr it lf rt b h s : Nat} : (rc_em l kd fr it lf rt b h s).length ≤ l + 1 := by
  unfold rc_em
  by_cases hl : l = 0
  · rw [if_pos hl]
    split <;> simp
  · rw [if_neg hl]
    (repeat' split) <;> simp <;> omega
theorem rc_em_dig {l kd fr it lf rt b h s : Nat} (hit : it < 4) (hh : h < 4 ∨ h = 5) (hs : s ≤ 4) : rc_dig (rc_em l kd fr it lf rt b h s) := by
  intro d
  unfold rc_em
  (repeat' split) <;> simp <;> omega
theorem rc_nb_le {kd b h s : Nat} (hb : b ≤ 4) (hh : h < 4 ∨ h = 5) (hs : s ≤ 4) : rc_nb kd b h s ≤ 4 := by
  unfold rc_nb
  (repeat' split) <;> omega
theorem rc_nh_ok {kd h s : Nat} (hh : h < 4 ∨ h = 5) (hs : s ≤ 4) : rc_nh kd h s < 4 ∨ rc_nh kd h s = 5 := by
  unfold rc_nh
  (repeat' split) <;> omega
theorem rc_dig_app {o e : List Nat} (h1 : rc_dig o) (h2 : rc_dig e) : rc_dig (o ++ e) := by
  intro d hd
  rcases List.mem_append.mp hd with z | z
  · exact h1 d z
  · exact h2 d z
theorem rc_dig_nil : rc_dig [] := fun d hd => absurd hd (by simp)
theorem rc_cd_snoc (o : List Nat) (d : Nat) : rc_cd (o ++ [d]) = 4 * rc_cd o + d := by
  simp [rc_cd, List.foldl_append]
theorem rc_ar_nil {a : Nat → Int32} : rc_ar a [] := fun j hj => absurd hj (Nat.not_lt_zero j)
theorem rc_ar_snoc {a : Nat → Int32} {o : List Nat} {d k : Nat} {x : Int32} (h : rc_ar a o) (hk : k = o.length) (hx : x = nI d) : rc_ar (upd a k x) (o ++ [d]) := by
  intro j hj
  have hj' : j < o.length + 1 := by simpa using hj
  by_cases e : j = k
  · rw [e, pk_us, hx, hk]
    simp [List.getD_eq_getElem?_getD]
  · have hl : j < o.length := by omega
    rw [pk_un e, h j hl]
    simp [List.getD_eq_getElem?_getD, List.getElem?_append_left hl]
theorem rc_ar_one {a : Nat → Int32} {d : Nat} (h : a 0 = nI d) : rc_ar a [d] := by
  intro j hj
  have : j = 0 := by simpa using hj
  rw [this, h]
  rfl
theorem rc_take {e : List Nat} {i : Nat} (h : i < e.length) : e.take (i + 1) = e.take i ++ [e.getD i 0] := by
  rw [List.take_succ, List.getElem?_eq_getElem h]
  simp [List.getD_eq_getElem?_getD, h]
theorem rc_drop {e : List Nat} {i : Nat} (h : i < e.length) : e.drop i = e.getD i 0 :: e.drop (i + 1) := by
  rw [List.drop_eq_getElem_cons h]
  simp [List.getD_eq_getElem?_getD, h]
theorem rc_dig_at {o : List Nat} {j : Nat} (h : rc_dig o) (hj : j < o.length) : o.getD j 0 < 4 := by
  have e : o.getD j 0 = o[j] := by simp [List.getD_eq_getElem?_getD, hj]
  rw [e]
  exact h _ (List.getElem_mem hj)
theorem rc_b8 : ∀ d, d < 128 → (nI d).toInt8.toInt32 = nI d := by decide +kernel
theorem rc_nar {d : Nat} (h : d < 128) : vp_nar .byte (nI d) = nI d := by rw [vp_nar_byte, rc_b8 d h]
theorem rc_alw : ∀ s, s < 32 → ∀ b, b < 5 → ((((nI s >>> (nI b &&& 31)) &&& 1) = 1) ↔ rc_al s b = true) := by decide +kernel
theorem rc_step4 (c d : Nat) : 4 * nI c + nI d = nI (4 * c + d) := by
  rw [show (4 : Int32) = nI 4 from rfl, pk_mul, nI_add]
/-! the law's own bits -/
theorem rc_sb : ∀ s, s < 1024 → ∀ b, b < 5 → ((((nI s >>> (nI b &&& 31)) &&& 1) = 1) ↔ rc_al s b = true) := by decide +kernel
theorem rc_sb5 : ∀ s, s < 1024 → ∀ b, b < 5 → ((((nI s >>> ((5 + nI b) &&& 31)) &&& 1) = 1) ↔ rc_al s (5 + b) = true) := by decide +kernel
theorem rc_lo : ∀ s, s < 1024 → ∀ b, b < 5 → rc_al (s % 32) b = rc_al s b := by decide +kernel
theorem rc_hi : ∀ s, s < 1024 → ∀ b, b < 5 → rc_al (s / 32) b = rc_al s (5 + b) := by decide +kernel
theorem rc_s1 : ∀ s, s < 1024 → (nI s &&& 31).toInt8.toInt32 = nI (s % 32) ∧ (nI s >>> ((5 : Int32) &&& 31)).toInt8.toInt32 = nI (s / 32) := by decide +kernel
/-! runs -/
theorem rc_run0 {kd fr it lf rt : Nat} : ∀ (w : List Nat) (b h : Nat), rc_dig w → rc_run 0 kd fr it lf rt b h (w ++ [4]) = w := by
  intro w
  induction w with
  | nil => intro b h _; simp [rc_run, rc_em]
  | cons s t ih =>
    intro b h hd
    have hs : s < 4 := hd s (by simp)
    have hs' : ¬ s = 4 := by omega
    show rc_em 0 kd fr it lf rt b h s ++ rc_run 0 kd fr it lf rt (rc_nb kd b h s) (rc_nh kd h s) (t ++ [4]) = s :: t
    rw [ih _ _ (fun d z => hd d (by simp [z]))]
    simp [rc_em, hs']
theorem rc_run_dig {l kd fr it lf rt : Nat} (hit : it < 4) : ∀ (w : List Nat) (b h : Nat), (h < 4 ∨ h = 5) → (∀ s, s ∈ w → s ≤ 4) → rc_dig (rc_run l kd fr it lf rt b h w) := by
  intro w
  induction w with
  | nil => intro b h _ _; exact rc_dig_nil
  | cons s t ih =>
    intro b h hh hw
    exact rc_dig_app (rc_em_dig hit hh (hw s (by simp))) (ih _ _ (rc_nh_ok hh (hw s (by simp))) (fun x z => hw x (by simp [z])))
theorem rc_run_len {l kd fr it lf rt : Nat} : ∀ (w : List Nat) (b h : Nat), (rc_run l kd fr it lf rt b h w).length ≤ (l + 1) * w.length := by
  intro w
  induction w with
  | nil => intro b h; simp [rc_run]
  | cons s t ih =>
    intro b h
    show (rc_em l kd fr it lf rt b h s ++ rc_run l kd fr it lf rt (rc_nb kd b h s) (rc_nh kd h s) t).length ≤ (l + 1) * (t.length + 1)
    have h1 := rc_em_len (l := l) (kd := kd) (fr := fr) (it := it) (lf := lf) (rt := rt) (b := b) (h := h) (s := s)
    have h2 := ih (rc_nb kd b h s) (rc_nh kd h s)
    rw [List.length_append, Nat.mul_succ]
    omega
/-! codes and their digits -/
theorem rc_cd_div : ∀ (t : List Nat) (c : Nat), rc_dig t → t.foldl (fun c d => 4 * c + d) c / 4 ^ t.length = c := by
  intro t
  induction t with
  | nil => intro c _; simp
  | cons d u ih =>
    intro c hd
    have h4 : d < 4 := hd d (by simp)
    show u.foldl (fun c d => 4 * c + d) (4 * c + d) / 4 ^ (u.length + 1) = c
    rw [Nat.pow_succ, ← Nat.div_div_eq_div_mul, ih _ (fun x z => hd x (by simp [z]))]
    omega
theorem rc_cd_at : ∀ (t : List Nat) (c p : Nat), rc_dig t → p < t.length → t.foldl (fun c d => 4 * c + d) c / 4 ^ (t.length - 1 - p) % 4 = t.getD p 0 := by
  intro t
  induction t with
  | nil => intro c p _ hp; exact absurd hp (Nat.not_lt_zero p)
  | cons d u ih =>
    intro c p hd hp
    have h4 : d < 4 := hd d (by simp)
    have hu : rc_dig u := fun x z => hd x (by simp [z])
    show u.foldl (fun c d => 4 * c + d) (4 * c + d) / 4 ^ (u.length + 1 - 1 - p) % 4 = (d :: u).getD p 0
    cases p with
    | zero =>
      rw [show u.length + 1 - 1 - 0 = u.length by omega, rc_cd_div u _ hu]
      show (4 * c + d) % 4 = d
      omega
    | succ q =>
      have hq : q < u.length := by simpa using hp
      rw [show u.length + 1 - 1 - (q + 1) = u.length - 1 - q by omega, ih _ q hu hq]
      simp [List.getD_eq_getElem?_getD]
theorem rc_cd_lt {o : List Nat} (h : rc_dig o) : rc_cd o < 2 * 4 ^ o.length := by
  have e : rc_cd o / 4 ^ o.length = 1 := rc_cd_div o 1 h
  have hp : 0 < 4 ^ o.length := Nat.pow_pos (by decide)
  have : rc_cd o / 4 ^ o.length < 2 := by omega
  exact (Nat.div_lt_iff_lt_mul hp).mp this
/-- digits of a number, the highest of n first -/
def rc_dl (num : Nat) : Nat → List Nat
  | 0 => []
  | i + 1 => (num / 4 ^ i % 4) :: rc_dl num i
theorem rc_dl_dig (num : Nat) : ∀ n, rc_dig (rc_dl num n) := by
  intro n
  induction n with
  | zero => exact rc_dig_nil
  | succ n ih =>
    intro d hd
    rcases List.mem_cons.mp hd with z | z
    · omega
    · exact ih d z
/-- what the law's loop adds for one letter -/
def rc_dd (d : Nat) : List Nat := if d < 4 then [d] else []
def rc_E (R kd fr it sd bf he be : Nat) : List Nat :=
  (if R = 1 ∧ kd = 2 ∧ rc_al sd bf = true ∧ rc_al sd (5 + he) = true then [it] else []) ++
  rc_dd (if R = 1 ∧ kd < 2 ∧ he = fr ∧ rc_al sd bf = true ∧ rc_al sd (5 + be) = true then (if kd = 0 then it else 4) else he)
theorem rc_law0 {kd fr it sd l0 l1 l2 : Nat} (h0 : l0 < 4) (h1 : l1 < 4) (h2 : l2 < 4) : rc_E 0 kd fr it sd 4 l0 l1 ++ rc_E 0 kd fr it sd l0 l1 l2 ++ rc_E 0 kd fr it sd l1 l2 4 ++ rc_E 0 kd fr it sd l2 4 4 = [l0, l1, l2] := by
  simp [rc_E, rc_dd, h0, h1, h2]
theorem rc_law1 {kd fr it sd l0 l1 l2 : Nat} (hk : kd < 3) (hf : fr < 4) (hi : it < 4) (hs : sd < 1024) (h0 : l0 < 4) (h1 : l1 < 4) (h2 : l2 < 4) :
    rc_run 1 kd fr it (sd % 32) (sd / 32) 4 5 ([l0, l1, l2] ++ [4]) = rc_E 1 kd fr it sd 4 l0 l1 ++ rc_E 1 kd fr it sd l0 l1 l2 ++ rc_E 1 kd fr it sd l1 l2 4 ++ rc_E 1 kd fr it sd l2 4 4 := by
  have n0 : ¬ l0 = 4 := by omega
  have n1 : ¬ l1 = 4 := by omega
  have n2 : ¬ l2 = 4 := by omega
  have m0 : ¬ l0 = 5 := by omega
  have m1 : ¬ l1 = 5 := by omega
  have m2 : ¬ l2 = 5 := by omega
  have mf : ¬ 4 = fr := by omega
  have A4 := rc_lo sd hs 4 (by decide)
  have A0 := rc_lo sd hs l0 (by omega)
  have A1 := rc_lo sd hs l1 (by omega)
  have A2 := rc_lo sd hs l2 (by omega)
  have B4 := rc_hi sd hs 4 (by decide)
  have B0 := rc_hi sd hs l0 (by omega)
  have B1 := rc_hi sd hs l1 (by omega)
  have B2 := rc_hi sd hs l2 (by omega)
  show rc_run 1 kd fr it (sd % 32) (sd / 32) 4 5 [l0, l1, l2, 4] = _
  by_cases k2 : kd = 2
  · subst k2
    simp [rc_run, rc_em, rc_nb, rc_nh, rc_E, rc_dd, n0, n1, n2, h0, h1, h2, A4, A0, A1, A2, B4, B0, B1, B2]
  · have k3 : kd < 2 := by omega
    have D : ∀ (c : Prop) [Decidable c] (he : Nat), he < 4 → rc_dd (if c then (if kd = 0 then it else 4) else he) = if c then (if kd = 0 then [it] else []) else [he] := by
      intro c _ he hh
      unfold rc_dd
      (repeat' split) <;> first | rfl | omega
    simp only [rc_run, rc_em, rc_nb, rc_nh, rc_E, k2, k3, n0, n1, n2, m0, m1, m2, mf, A4, A0, A1, A2, B4, B0, B1, B2, if_true, if_false, true_and, false_and, and_false, List.nil_append, List.append_nil, Nat.one_ne_zero, D _ _ h0, D _ _ h1, D _ _ h2]
    simp [rc_dd]
end
section
def rc_rule (kd fr it lf rt : Nat) (a1 a2 a3 a4 a5 : Nat → Int32) : Prop :=
  a1 0 = nI kd ∧ a2 0 = nI fr ∧ a3 0 = nI it ∧ a4 0 = nI lf ∧ a5 0 = nI rt ∧ kd < 3 ∧ fr < 4 ∧ it < 4 ∧ lf < 32 ∧ rt < 32
/-- letters that rule 0 has handed on in this passing, and its counter -/
def rc_H (e : List Nat) (m : Nat) (g : Int32) (a10 a12 : Nat → Int32) : Prop := g = nI e.length ∧ rc_ar a12 e ∧ a10 0 = nI (m + e.length)
theorem rc_c0 : (0 : Int32).toNatClampNeg = 0 := rfl
theorem rc_u0 {a : Nat → Int32} {v w : Int32} (h : v = w) : upd a (0 : Int32).toNatClampNeg v 0 = w := by
  rw [rc_c0, pk_us, h]
theorem rc_handOn {post : St2 → Prop} {f0_rules f0_size f0_line f0_coming f0_going f0_result f0_wanted f0_found f0_later : Int32} {a1 a2 a3 a4 a5 a6 a7 a8 a9 a10 a11 a12 a13 a15 a17 a18 : Nat → Int32} {a14 a16 : Nat → Int64} {e : List Nat} {m d : Nat} {x : Int32} (hx : x = nI d) (hH : rc_H e m f0_going a10 a12) (hm : m + e.length < 12) (hd : d < 128)
    (H : ∀ (g : Int32) (b10 b12 : Nat → Int32), rc_H (e ++ [d]) m g b10 b12 → post (f0_rules, f0_size, f0_line, f0_coming, g, f0_result, f0_wanted, f0_found, f0_later, a1, a2, a3, a4, a5, a6, a7, a8, a9, b10, a11, b12, a13, a14, a15, a16, a17, a18)) : wpX_handOn post (f0_rules, f0_size, f0_line, f0_coming, f0_going, f0_result, f0_wanted, f0_found, f0_later, a1, a2, a3, a4, a5, a6, a7, a8, a9, a10, a11, a12, a13, a14, a15, a16, a17, a18) 0 x := by
  obtain ⟨h1, h2, h3⟩ := hH
  subst hx
  refine ⟨pk_in 0 5 (by decide), br_f ?_ ⟨pk_in e.length 80 (by omega) h1, nm_e (nm_e ⟨pk_in 0 5 (by decide), pk_in 0 5 (by decide), nm_e (H _ _ _ ⟨?_, ?_, ?_⟩)⟩)⟩⟩
  · rw [rc_c0, h3]
    exact nI_ge hm (by decide)
  · rw [h1, nI_1, List.length_append]
    rfl
  · exact rc_ar_snoc h2 (by rw [h1, nI_clamp (by omega)]) (rc_b8 d hd)
  · refine rc_u0 ?_
    rw [rc_c0, h3, nI_1, rc_b8 _ (by omega), List.length_append]
    rfl
theorem rc_allows {post : Int32 → Prop} {f0_rules f0_size f0_line f0_coming f0_going f0_result f0_wanted f0_found f0_later : Int32} {a1 a2 a3 a4 a5 a6 a7 a8 a9 a10 a11 a12 a13 a15 a17 a18 : Nat → Int32} {a14 a16 : Nat → Int64} {s b : Nat} {x y : Int32} (hx : x = nI s) (hy : y = nI b) (hs : s < 32) (hb : b ≤ 4) (ht : rc_al s b = true → post 1) (hf : ¬ rc_al s b = true → post 0) : wpX_allows post (f0_rules, f0_size, f0_line, f0_coming, f0_going, f0_result, f0_wanted, f0_found, f0_later, a1, a2, a3, a4, a5, a6, a7, a8, a9, a10, a11, a12, a13, a14, a15, a16, a17, a18) x y := by
  subst hx hy
  exact ⟨fun z => ht ((rc_alw s hs b (by omega)).mp z), fun z => hf (fun t => z ((rc_alw s hs b (by omega)).mpr t))⟩
theorem rc_m61 {post : St2 → Prop} {f0_rules f0_size f0_line f0_coming f0_going f0_result f0_wanted f0_found f0_later : Int32} {a1 a2 a3 a4 a5 a6 a7 a8 a9 a10 a11 a12 a13 a15 a17 a18 : Nat → Int32} {a14 a16 : Nat → Int64} {e : List Nat} {m s : Nat} (hH : rc_H e m f0_going a10 a12) (hm : m + e.length < 12) (hs : s ≤ 4)
    (H : ∀ (g : Int32) (b8 b10 b12 : Nat → Int32), rc_H (e ++ (if s = 4 then [] else [s])) m g b10 b12 → b8 0 = nI s → post (f0_rules, f0_size, f0_line, f0_coming, g, f0_result, f0_wanted, f0_found, f0_later, a1, a2, a3, a4, a5, a6, a7, b8, a9, b10, a11, b12, a13, a14, a15, a16, a17, a18)) : wX_meet_61 post 0 (nI s) f0_rules f0_size f0_line f0_coming f0_going f0_result f0_wanted f0_found f0_later a1 a2 a3 a4 a5 a6 a7 a8 a9 a10 a11 a12 a13 a14 a15 a16 a17 a18 := by
  refine pk_eq s 4 (fun e4 => ⟨pk_in 0 5 (by decide), nm_e (H _ _ _ _ ?_ (rc_u0 (rc_b8 s (by omega))))⟩) (fun n4 => rc_handOn rfl hH hm (by omega) (fun g b10 b12 hH' => ⟨pk_in 0 5 (by decide), nm_e (H _ _ _ _ ?_ (rc_u0 (rc_b8 s (by omega))))⟩))
  · rw [if_pos e4, List.append_nil]
    exact hH
  · rw [if_neg n4]
    exact hH'
theorem rc_m190 {post : St2 → Prop} {f0_rules f0_size f0_line f0_coming f0_going f0_result f0_wanted f0_found f0_later : Int32} {a1 a2 a3 a4 a5 a6 a7 a8 a9 a10 a11 a12 a13 a15 a17 a18 : Nat → Int32} {a14 a16 : Nat → Int64} {s : Nat} (hs : s ≤ 4) (H : ∀ b9 : Nat → Int32, b9 0 = nI (if s = 4 then 5 else s) → post (f0_rules, f0_size, f0_line, f0_coming, f0_going, f0_result, f0_wanted, f0_found, f0_later, a1, a2, a3, a4, a5, a6, a7, a8, b9, a10, a11, a12, a13, a14, a15, a16, a17, a18)) : wX_meet_190 post 0 (nI s) f0_rules f0_size f0_line f0_coming f0_going f0_result f0_wanted f0_found f0_later a1 a2 a3 a4 a5 a6 a7 a8 a9 a10 a11 a12 a13 a14 a15 a16 a17 a18 :=
  pk_eq s 4 (fun e4 => ⟨pk_in 0 5 (by decide), nm_e (H _ (rc_u0 (by rw [if_pos e4]; rfl)))⟩) (fun n4 => ⟨pk_in 0 5 (by decide), nm_e (H _ (rc_u0 (by rw [if_neg n4, rc_b8 s (by omega)])))⟩)
theorem rc_m181 {post : St2 → Prop} {f0_rules f0_size f0_line f0_coming f0_going f0_result f0_wanted f0_found f0_later : Int32} {a1 a2 a3 a4 a5 a6 a7 a8 a9 a10 a11 a12 a13 a15 a17 a18 : Nat → Int32} {a14 a16 : Nat → Int64} {s h : Nat} (hs : s ≤ 4) (hh : h < 6) (H : ∀ b8 b9 : Nat → Int32, b8 0 = nI h → b9 0 = nI (if s = 4 then 5 else s) → post (f0_rules, f0_size, f0_line, f0_coming, f0_going, f0_result, f0_wanted, f0_found, f0_later, a1, a2, a3, a4, a5, a6, a7, b8, b9, a10, a11, a12, a13, a14, a15, a16, a17, a18)) : wX_meet_181 post 0 (nI s) (nI h) f0_rules f0_size f0_line f0_coming f0_going f0_result f0_wanted f0_found f0_later a1 a2 a3 a4 a5 a6 a7 a8 a9 a10 a11 a12 a13 a14 a15 a16 a17 a18 :=
  ⟨pk_in 0 5 (by decide), nm_e (rc_m190 hs (fun b9 h9 => H _ b9 (rc_u0 (rc_b8 h (by omega))) h9))⟩
theorem rc_m144a {post : St2 → Prop} {f0_rules f0_size f0_line f0_coming f0_going f0_result f0_wanted f0_found f0_later : Int32} {a1 a2 a3 a4 a5 a6 a7 a8 a9 a10 a11 a12 a13 a15 a17 a18 : Nat → Int32} {a14 a16 : Nat → Int64} {m s h : Nat} {x3 : Int32} (hH : rc_H [] m f0_going a10 a12) (hm : m + 2 ≤ 12) (hs : s ≤ 4) (hh : h < 6)
    (H : ∀ (g : Int32) (b8 b9 b10 b12 : Nat → Int32), rc_H [h] m g b10 b12 → b8 0 = nI h → b9 0 = nI (if s = 4 then 5 else s) → post (f0_rules, f0_size, f0_line, f0_coming, g, f0_result, f0_wanted, f0_found, f0_later, a1, a2, a3, a4, a5, a6, a7, b8, b9, b10, a11, b12, a13, a14, a15, a16, a17, a18)) : wX_meet_144 post 0 (nI s) x3 (nI h) 0 f0_rules f0_size f0_line f0_coming f0_going f0_result f0_wanted f0_found f0_later a1 a2 a3 a4 a5 a6 a7 a8 a9 a10 a11 a12 a13 a14 a15 a16 a17 a18 :=
  br_t rfl (rc_handOn rfl hH (Nat.lt_of_lt_of_le (by simp) hm) (by omega) (fun g b10 b12 hH' => rc_m181 hs hh (fun b8 b9 h8 h9 => H g b8 b9 b10 b12 hH' h8 h9)))
theorem rc_m144b {post : St2 → Prop} {f0_rules f0_size f0_line f0_coming f0_going f0_result f0_wanted f0_found f0_later : Int32} {a1 a2 a3 a4 a5 a6 a7 a8 a9 a10 a11 a12 a13 a15 a17 a18 : Nat → Int32} {a14 a16 : Nat → Int64} {m s h kd it : Nat} (h1 : a1 0 = nI kd) (hk : kd < 3) (h3 : a3 0 = nI it) (hit : it < 4) (hH : rc_H [] m f0_going a10 a12) (hm : m + 2 ≤ 12) (hs : s ≤ 4) (hh : h < 6)
    (H : ∀ (g : Int32) (b8 b9 b10 b12 : Nat → Int32), rc_H (if kd = 0 then [it] else []) m g b10 b12 → b8 0 = nI h → b9 0 = nI (if s = 4 then 5 else s) → post (f0_rules, f0_size, f0_line, f0_coming, g, f0_result, f0_wanted, f0_found, f0_later, a1, a2, a3, a4, a5, a6, a7, b8, b9, b10, a11, b12, a13, a14, a15, a16, a17, a18)) : wX_meet_144 post 0 (nI s) (nI 0) (nI h) 1 f0_rules f0_size f0_line f0_coming f0_going f0_result f0_wanted f0_found f0_later a1 a2 a3 a4 a5 a6 a7 a8 a9 a10 a11 a12 a13 a14 a15 a16 a17 a18 := by
  refine br_f (by decide) ⟨pk_in 0 5 (by decide), pk_eq kd 0 (fun k0 => ⟨pk_in 0 5 (by decide), rc_handOn h3 hH (Nat.lt_of_lt_of_le (by simp) hm) (by omega) (fun g b10 b12 hH' => rc_m181 hs hh (fun b8 b9 h8 h9 => H g b8 b9 b10 b12 ?_ h8 h9))⟩) (fun k0 => rc_m181 hs hh (fun b8 b9 h8 h9 => H _ b8 b9 _ _ ?_ h8 h9)) h1⟩
  · rw [if_pos k0]
    exact hH'
  · rw [if_neg k0]
    exact hH
theorem rc_meet {post : St2 → Prop} {f0_rules f0_size f0_line f0_coming f0_going f0_result f0_wanted f0_found f0_later : Int32} {a1 a2 a3 a4 a5 a6 a7 a8 a9 a10 a11 a12 a13 a15 a17 a18 : Nat → Int32} {a14 a16 : Nat → Int64} {kd fr it lf rt b h m s : Nat} {x : Int32} (hx : x = nI s) (hr : rc_rule kd fr it lf rt a1 a2 a3 a4 a5) (h7 : a7 0 = nI 0) (h8 : a8 0 = nI b) (h9 : a9 0 = nI h) (hH : rc_H [] m f0_going a10 a12) (hm : m + 2 ≤ 12) (hb : b ≤ 4) (hh : h < 4 ∨ h = 5) (hs : s ≤ 4)
    (H : ∀ (g : Int32) (b8 b9 b10 b12 : Nat → Int32), rc_H (rc_em 1 kd fr it lf rt b h s) m g b10 b12 → b8 0 = nI (rc_nb kd b h s) → b9 0 = nI (rc_nh kd h s) → post (f0_rules, f0_size, f0_line, f0_coming, g, f0_result, f0_wanted, f0_found, f0_later, a1, a2, a3, a4, a5, a6, a7, b8, b9, b10, a11, b12, a13, a14, a15, a16, a17, a18)) : wpX_meet post (f0_rules, f0_size, f0_line, f0_coming, f0_going, f0_result, f0_wanted, f0_found, f0_later, a1, a2, a3, a4, a5, a6, a7, a8, a9, a10, a11, a12, a13, a14, a15, a16, a17, a18) 0 x := by
  obtain ⟨k1, k2, k3, k4, k5, c1, c2, c3, c4, c5⟩ := hr
  subst hx
  refine ⟨pk_in 0 5 (by decide), nm_r h7 ⟨pk_in 0 5 (by decide), ?_⟩⟩
  refine pk_eq kd 2 (fun e2 => ?_) (fun n2 => ?_) k1
  · have B8 : rc_nb kd b h s = s := by simp [rc_nb, e2]
    have B9 : rc_nh kd h s = h := by simp [rc_nh, e2]
    have tail : (¬ (rc_al lf b = true ∧ rc_al rt s = true)) → wX_meet_61 post 0 (nI s) f0_rules f0_size f0_line f0_coming f0_going f0_result f0_wanted f0_found f0_later a1 a2 a3 a4 a5 a6 a7 a8 a9 a10 a11 a12 a13 a14 a15 a16 a17 a18 := by
      intro hn
      have E : rc_em 1 kd fr it lf rt b h s = [] ++ (if s = 4 then [] else [s]) := by
        rw [rc_em, if_neg (show ¬ (1 : Nat) = 0 by decide), if_pos e2, if_neg hn]
      refine rc_m61 hH (Nat.lt_of_lt_of_le (by simp) hm) hs (fun g b8 b10 b12 g1 g2 => H g b8 a9 b10 b12 ?_ ?_ ?_)
      · rw [E]; exact g1
      · rw [B8]; exact g2
      · rw [B9]; exact h9
    refine ⟨pk_in 0 5 (by decide), pk_in 0 5 (by decide), rc_allows k4 h8 c4 hb (fun t1 => br_f (by decide) ⟨pk_in 0 5 (by decide), rc_allows k5 rfl c5 hs (fun t2 => br_f (by decide) ⟨pk_in 0 5 (by decide), ?_⟩) (fun t2 => br_t rfl (tail (fun z => t2 z.2)))⟩) (fun t1 => br_t rfl (tail (fun z => t1 z.1)))⟩
    have E : rc_em 1 kd fr it lf rt b h s = [it] ++ (if s = 4 then [] else [s]) := by
      rw [rc_em, if_neg (show ¬ (1 : Nat) = 0 by decide), if_pos e2, if_pos ⟨t1, t2⟩]
    refine rc_handOn k3 hH (Nat.lt_of_lt_of_le (by simp) hm) (by omega) (fun g b10 b12 hH' => rc_m61 (e := [it]) hH' (by simp; omega) hs (fun g' b8 b10' b12' g1 g2 => H g' b8 a9 b10' b12' ?_ ?_ ?_))
    · rw [E]; exact g1
    · rw [B8]; exact g2
    · rw [B9]; exact h9
  · refine ⟨pk_in 0 5 (by decide), nm_r h9 ?_⟩
    have B9 : rc_nh kd h s = if s = 4 then 5 else s := by simp [rc_nh, n2]
    refine pk_eq h 5 (fun e5 => ?_) (fun n5 => ?_)
    · have E : rc_em 1 kd fr it lf rt b h s = [] := by rw [rc_em, if_neg (show ¬ (1 : Nat) = 0 by decide), if_neg n2, if_pos e5]
      have B8 : rc_nb kd b h s = b := by simp [rc_nb, n2, e5]
      refine rc_m190 hs (fun b9 g9 => H _ _ b9 _ _ ?_ ?_ ?_)
      · rw [E]; exact hH
      · rw [B8]; exact h8
      · rw [B9]; exact g9
    · have B8 : rc_nb kd b h s = h := by simp [rc_nb, n2, n5]
      have tail : (¬ (h = fr ∧ rc_al lf b = true ∧ rc_al rt s = true)) → wX_meet_144 post 0 (nI s) (nI 0) (nI h) 0 f0_rules f0_size f0_line f0_coming f0_going f0_result f0_wanted f0_found f0_later a1 a2 a3 a4 a5 a6 a7 a8 a9 a10 a11 a12 a13 a14 a15 a16 a17 a18 := by
        intro hn
        have E : rc_em 1 kd fr it lf rt b h s = [h] := by rw [rc_em, if_neg (show ¬ (1 : Nat) = 0 by decide), if_neg n2, if_neg n5, if_neg hn]
        refine rc_m144a hH hm hs (by omega) (fun g b8 b9 b10 b12 g1 g2 g3 => H g b8 b9 b10 b12 ?_ ?_ ?_)
        · rw [E]; exact g1
        · rw [B8]; exact g2
        · rw [B9]; exact g3
      refine ⟨pk_in 0 5 (by decide), pk_eq h fr (fun ef => ⟨pk_in 0 5 (by decide), pk_in 0 5 (by decide), rc_allows k4 h8 c4 hb (fun t1 => br_f (by decide) ⟨pk_in 0 5 (by decide), rc_allows k5 rfl c5 hs (fun t2 => br_f (by decide) ?_) (fun t2 => br_t rfl (tail (fun z => t2 z.2.2)))⟩) (fun t1 => br_t rfl (tail (fun z => t1 z.2.1)))⟩) (fun nf => tail (fun z => nf z.1)) rfl k2⟩
      have E : rc_em 1 kd fr it lf rt b h s = if kd = 0 then [it] else [] := by rw [rc_em, if_neg (show ¬ (1 : Nat) = 0 by decide), if_neg n2, if_neg n5, if_pos ⟨ef, t1, t2⟩]
      refine rc_m144b k1 c1 k3 c3 hH hm hs (by omega) (fun g b8 b9 b10 b12 g1 g2 g3 => H g b8 b9 b10 b12 ?_ ?_ ?_)
      · rw [E]; exact g1
      · rw [B8]; exact g2
      · rw [B9]; exact g3
end
section
theorem rc_exch {post : St2 → Prop} {f0_rules f0_size f0_line f0_coming f0_going f0_result f0_wanted f0_found f0_later : Int32} {a1 a2 a3 a4 a5 a6 a7 a8 a9 a10 a11 a12 a13 a15 a17 a18 : Nat → Int32} {a14 a16 : Nat → Int64} {e : List Nat} (hg : f0_going = nI e.length) (h12 : rc_ar a12 e) (hd : rc_dig e) (he : e.length ≤ 80)
    (H : ∀ b11 : Nat → Int32, rc_ar b11 e → post (f0_rules, f0_size, f0_line, f0_going, f0_going, f0_result, f0_wanted, f0_found, f0_later, a1, a2, a3, a4, a5, a6, a7, a8, a9, a10, b11, a12, a13, a14, a15, a16, a17, a18)) : wpX_exchangeWays post (f0_rules, f0_size, f0_line, f0_coming, f0_going, f0_result, f0_wanted, f0_found, f0_later, a1, a2, a3, a4, a5, a6, a7, a8, a9, a10, a11, a12, a13, a14, a15, a16, a17, a18) := by
  subst hg
  refine pk_loop (fun n i (s : Nat → Int32) => wX_exchangeWays_2 post f0_rules f0_size f0_line f0_coming (nI e.length) f0_result f0_wanted f0_found f0_later n (nI i) a1 a2 a3 a4 a5 a6 a7 a8 a9 a10 s a12 a13 a14 a15 a16 a17 a18) (fun i s => rc_ar s (e.take i)) e.length 0 a11 (by omega) ?_ ?_ ?_
  · exact rc_ar_nil
  · intro n s hI
    exact pk_le e.length e.length (fun _ => H s (by have t : rc_ar s (e.take e.length) := hI; rwa [List.take_length] at t)) (fun z => absurd z (by omega))
  · intro n i s hi hI hw
    refine pk_le e.length i (fun z => absurd z (by omega)) (fun _ => ⟨pk_in i 80 (by omega), pk_in i 80 (by omega), nm_e (nm_r (nI_1 i) (hw _ ?_))⟩)
    show rc_ar _ (e.take (i + 1))
    rw [rc_take hi]
    exact rc_ar_snoc hI (by rw [nI_clamp (by omega), List.length_take]; omega) (by rw [nI_clamp (by omega), h12 i hi, rc_nar (by have := rc_dig_at hd hi; omega)])
theorem rc_pass {post : St2 → Prop} {f0_rules f0_size f0_line f0_coming f0_going f0_result f0_wanted f0_found f0_later : Int32} {a1 a2 a3 a4 a5 a6 a7 a8 a9 a10 a11 a12 a13 a15 a17 a18 : Nat → Int32} {a14 a16 : Nat → Int64} {kd fr it lf rt b h m s : Nat} {z : Int32} (hr : rc_rule kd fr it lf rt a1 a2 a3 a4 a5) (h7 : a7 0 = nI 0) (h8 : a8 0 = nI b) (h9 : a9 0 = nI h) (h10 : a10 0 = nI m) (hm : m + 2 ≤ 12) (hb : b ≤ 4) (hh : h < 4 ∨ h = 5) (hs : s ≤ 4)
    (hc : (s = 4 ∧ f0_coming = 0 ∧ z = 1) ∨ (s < 4 ∧ f0_coming = 1 ∧ a11 0 = nI s ∧ z = 0))
    (H : ∀ (c g : Int32) (b8 b9 b10 b11 b12 : Nat → Int32), c = nI (rc_em 1 kd fr it lf rt b h s).length → rc_ar b11 (rc_em 1 kd fr it lf rt b h s) → b10 0 = nI (m + (rc_em 1 kd fr it lf rt b h s).length) → b8 0 = nI (rc_nb kd b h s) → b9 0 = nI (rc_nh kd h s) → post (f0_rules, f0_size, f0_line, c, g, f0_result, f0_wanted, f0_found, f0_later, a1, a2, a3, a4, a5, a6, a7, b8, b9, b10, b11, b12, a13, a14, a15, a16, a17, a18)) : wpX_passRule post (f0_rules, f0_size, f0_line, f0_coming, f0_going, f0_result, f0_wanted, f0_found, f0_later, a1, a2, a3, a4, a5, a6, a7, a8, a9, a10, a11, a12, a13, a14, a15, a16, a17, a18) 0 z := by
  have hH : rc_H [] m 0 a10 a12 := ⟨rfl, rc_ar_nil, h10⟩
  have hl := rc_em_len (l := 1) (kd := kd) (fr := fr) (it := it) (lf := lf) (rt := rt) (b := b) (h := h) (s := s)
  have hit : it < 4 := hr.2.2.2.2.2.2.2.1
  have K : ∀ (g : Int32) (b8 b9 b10 b12 : Nat → Int32), rc_H (rc_em 1 kd fr it lf rt b h s) m g b10 b12 → b8 0 = nI (rc_nb kd b h s) → b9 0 = nI (rc_nh kd h s) → wX_passRule_42 post f0_rules f0_size f0_line f0_coming g f0_result f0_wanted f0_found f0_later a1 a2 a3 a4 a5 a6 a7 b8 b9 b10 a11 b12 a13 a14 a15 a16 a17 a18 :=
    fun g b8 b9 b10 b12 k1 k2 k3 => rc_exch k1.1 k1.2.1 (rc_em_dig hit hh hs) (by omega) (fun b11 h11 => H g g b8 b9 b10 b11 b12 k1.1 h11 k1.2.2 k2 k3)
  rcases hc with ⟨e4, ec, ez⟩ | ⟨n4, ec, e11, ez⟩
  · subst ec ez
    exact ⟨1, br_t (by decide) (br_f (by decide) (rc_meet (by rw [e4]; rfl) hr h7 h8 h9 hH hm hb hh hs K))⟩
  · subst ec ez
    exact ⟨2, br_f (by decide) ⟨pk_in 0 80 (by decide), rc_meet e11 hr h7 h8 h9 hH hm hb hh hs (fun g b8 b9 b10 b12 k1 k2 k3 => nm_e (br_t (by decide) (br_t rfl (K g b8 b9 b10 b12 k1 k2 k3))))⟩⟩
theorem rc_f56 {post : St2 → Prop} {f0_rules f0_size f0_line f0_coming f0_going f0_result f0_wanted f0_found f0_later : Int32} {a1 a2 a3 a4 a5 a6 a7 a8 a9 a10 a11 a12 a13 a15 a17 a18 : Nat → Int32} {a14 a16 : Nat → Int64} {o e : List Nat} (hc : f0_coming = nI e.length) (hr : f0_result = nI o.length) (h11 : rc_ar a11 e) (h13 : rc_ar a13 o) (hd : rc_dig e) (hl : o.length + e.length ≤ 12)
    (H : ∀ (wq : Int32) (b13 : Nat → Int32), rc_ar b13 (o ++ e) → post (f0_rules, f0_size, f0_line, f0_coming, f0_going, nI (o ++ e).length, wq, f0_found, f0_later, a1, a2, a3, a4, a5, a6, a7, a8, a9, a10, a11, a12, b13, a14, a15, a16, a17, a18)) :
    ∃ n, wX_feed_56 post f0_rules f0_size f0_line f0_coming f0_going f0_found f0_later n 0 f0_result f0_wanted a1 a2 a3 a4 a5 a6 a7 a8 a9 a10 a11 a12 a13 a14 a15 a16 a17 a18 := by
  subst hc hr
  refine pk_loop (fun n i (s : Int32 × (Nat → Int32)) => wX_feed_56 post f0_rules f0_size f0_line (nI e.length) f0_going f0_found f0_later n (nI i) (nI (o.length + i)) s.1 a1 a2 a3 a4 a5 a6 a7 a8 a9 a10 a11 a12 (s.2) a14 a15 a16 a17 a18) (fun i s => rc_ar s.2 (o ++ e.take i)) e.length 0 (f0_wanted, a13) (by omega) ?_ ?_ ?_
  · show rc_ar a13 (o ++ e.take 0)
    rw [List.take_zero, List.append_nil]
    exact h13
  · intro n s hI
    have t : rc_ar s.2 (o ++ e.take e.length) := hI
    rw [List.take_length] at t
    have t2 := H s.1 s.2 t
    rw [List.length_append] at t2
    exact pk_le e.length e.length (fun _ => t2) (fun z => absurd z (by omega))
  · intro n i s hi hI hw
    have hdi := rc_dig_at hd hi
    have F : rc_ar (upd s.2 (nI (o.length + i)).toNatClampNeg (vp_nar .byte (a11 (nI i).toNatClampNeg))) (o ++ e.take (i + 1)) := by
      rw [rc_take hi, ← List.append_assoc]
      exact rc_ar_snoc hI (by rw [nI_clamp (by omega), List.length_append, List.length_take]; omega) (by rw [nI_clamp (by omega), h11 i hi, rc_nar (by omega)])
    have G : ∀ z : Int32, wX_feed_56 post f0_rules f0_size f0_line (nI e.length) f0_going f0_found f0_later n (nI (i + 1)) (nI (o.length + i + 1)) z a1 a2 a3 a4 a5 a6 a7 a8 a9 a10 a11 a12 (upd s.2 (nI (o.length + i)).toNatClampNeg (vp_nar .byte (a11 (nI i).toNatClampNeg))) a14 a15 a16 a17 a18 := fun z => hw (z, _) F
    refine pk_le e.length i (fun z => absurd z (by omega)) (fun _ => pk_le 12 (o.length + i) (fun z => absurd z (by omega)) (fun _ => ⟨pk_in i 80 (by omega), pk_in (o.length + i) 12 (by omega), nm_e ?_⟩))
    have K0 : wX_feed_130 post (wX_feed_56 post f0_rules f0_size f0_line (nI e.length) f0_going f0_found f0_later n) (nI i) 0 f0_rules f0_size f0_line (nI e.length) f0_going (nI (o.length + i)) s.1 f0_found f0_later a1 a2 a3 a4 a5 a6 a7 a8 a9 a10 a11 a12 (upd s.2 (nI (o.length + i)).toNatClampNeg (vp_nar .byte (a11 (nI i).toNatClampNeg))) a14 a15 a16 a17 a18 :=
      ⟨rfl, rfl, nm_r (nI_1 _) (nm_r (nI_1 i) (G 0))⟩
    have K1 : wX_feed_130 post (wX_feed_56 post f0_rules f0_size f0_line (nI e.length) f0_going f0_found f0_later n) (nI i) 1 f0_rules f0_size f0_line (nI e.length) f0_going (nI (o.length + i)) s.1 f0_found f0_later a1 a2 a3 a4 a5 a6 a7 a8 a9 a10 a11 a12 (upd s.2 (nI (o.length + i)).toNatClampNeg (vp_nar .byte (a11 (nI i).toNatClampNeg))) a14 a15 a16 a17 a18 :=
      ⟨rfl, rfl, nm_r (nI_1 _) (nm_r (nI_1 i) (G 1))⟩
    exact br_c (fun _ => K0) (fun _ => br_c (fun _ => K0) (fun _ => ⟨pk_in (o.length + i) 12 (by omega), pk_in i 80 (by omega), br_c (fun _ => K1) (fun _ => K0)⟩))
/-- a run at work: l rules in the line, rule 0's memory b h, the letters o that came out -/
def rc_R (l kd fr it lf rt b h : Nat) (o : List Nat) (f0_line f0_result : Int32) (a1 a2 a3 a4 a5 a7 a8 a9 a10 a13 : Nat → Int32) : Prop :=
  f0_line = nI l ∧ f0_result = nI o.length ∧ rc_ar a13 o ∧ rc_dig o ∧ l ≤ 1 ∧ (l = 1 → rc_rule kd fr it lf rt a1 a2 a3 a4 a5 ∧ a7 0 = nI 0 ∧ a8 0 = nI b ∧ a9 0 = nI h ∧ a10 0 = nI o.length ∧ b ≤ 4 ∧ (h < 4 ∨ h = 5))
theorem rc_feed {post : St2 → Prop} {f0_rules f0_size f0_line f0_coming f0_going f0_result f0_wanted f0_found f0_later : Int32} {a1 a2 a3 a4 a5 a6 a7 a8 a9 a10 a11 a12 a13 a15 a17 a18 : Nat → Int32} {a14 a16 : Nat → Int64} {l kd fr it lf rt b h s : Nat} {o : List Nat} {x : Int32} (hx : x = nI s) (hR : rc_R l kd fr it lf rt b h o f0_line f0_result a1 a2 a3 a4 a5 a7 a8 a9 a10 a13) (ho : o.length + 2 ≤ 12) (hs : s ≤ 4)
    (H : ∀ (f0_comingq f0_goingq f0_resultq f0_wantedq : Int32) (a8q a9q a10q a11q a12q a13q : Nat → Int32), rc_R l kd fr it lf rt (rc_nb kd b h s) (rc_nh kd h s) (o ++ rc_em l kd fr it lf rt b h s) f0_line f0_resultq a1 a2 a3 a4 a5 a7 a8q a9q a10q a13q → post (f0_rules, f0_size, f0_line, f0_comingq, f0_goingq, f0_resultq, f0_wantedq, f0_found, f0_later, a1, a2, a3, a4, a5, a6, a7, a8q, a9q, a10q, a11q, a12q, a13q, a14, a15, a16, a17, a18)) : wpX_feed post (f0_rules, f0_size, f0_line, f0_coming, f0_going, f0_result, f0_wanted, f0_found, f0_later, a1, a2, a3, a4, a5, a6, a7, a8, a9, a10, a11, a12, a13, a14, a15, a16, a17, a18) x := by
  obtain ⟨r1, r2, r3, r4, r5, r6⟩ := hR
  subst hx
  have hl : l = 0 ∨ l = 1 := by omega
  rcases hl with e | e
  · subst e
    have hline : f0_line ≤ 0 := by rw [r1]; decide
    refine pk_eq s 4 (fun e4 => ⟨1, br_t hline ?_⟩) (fun n4 => nm_e ⟨1, br_t hline ?_⟩)
    · have E : rc_em 0 kd fr it lf rt b h s = [] := by rw [rc_em, if_pos rfl, if_pos e4]
      rw [E] at H
      exact rc_f56 (e := []) rfl r2 rc_ar_nil r3 rc_dig_nil (Nat.le_trans (by simp) ho) (fun wq b13 g => H _ _ _ wq _ _ _ _ _ b13 ⟨r1, rfl, g, rc_dig_app r4 rc_dig_nil, by decide, fun z => absurd z (by decide)⟩)
    · have E : rc_em 0 kd fr it lf rt b h s = [s] := by rw [rc_em, if_pos rfl, if_neg n4]
      rw [E] at H
      have D : rc_dig [s] := fun d hd => by
        have : d = s := by simpa using hd
        omega
      exact rc_f56 (e := [s]) rfl r2 (rc_ar_one (by rw [pk_us, rc_b8 s (by omega)])) r3 D (by simp; omega) (fun wq b13 g => H _ _ _ wq _ _ _ _ _ b13 ⟨r1, rfl, g, rc_dig_app r4 D, by decide, fun z => absurd z (by decide)⟩)
  · subst e
    obtain ⟨q1, q2, q3, q4, q5, q6, q7⟩ := r6 rfl
    have hit : it < 4 := q1.2.2.2.2.2.2.2.1
    have hl0 : ¬ f0_line ≤ 0 := by rw [r1]; decide
    have hl1 : f0_line ≤ 0 + 1 := by rw [r1]; decide
    have hlen := rc_em_len (l := 1) (kd := kd) (fr := fr) (it := it) (lf := lf) (rt := rt) (b := b) (h := h) (s := s)
    have D : rc_dig (rc_em 1 kd fr it lf rt b h s) := rc_em_dig hit q7 hs
    refine pk_eq s 4 (fun e4 => ⟨2, br_f hl0 (br_t (by rw [e4]; rfl) (rc_pass q1 q2 q3 q4 q5 ho q6 q7 hs (Or.inl ⟨e4, rfl, rfl⟩) ?_))⟩) (fun n4 => nm_e ⟨2, br_f hl0 (br_f ?_ (rc_pass q1 q2 q3 q4 q5 ho q6 q7 hs (Or.inr ⟨by omega, rfl, ?_, rfl⟩) ?_))⟩)
    · intro c g b8 b9 b10 b11 b12 g1 g2 g3 g4 g5
      exact nm_e (br_t hl1 (rc_f56 g1 r2 g2 r3 D (by omega) (fun wq b13 k => H _ _ _ wq _ _ _ _ _ b13 ⟨r1, rfl, k, rc_dig_app r4 D, by decide, fun _ => ⟨q1, q2, g4, g5, by rw [g3, List.length_append], rc_nb_le q6 q7 hs, rc_nh_ok q7 hs⟩⟩)))
    · intro z
      exact n4 ((nI_eq (by omega) (by decide)).mp z)
    · rw [pk_us, rc_b8 s (by omega)]
    · intro c g b8 b9 b10 b11 b12 g1 g2 g3 g4 g5
      exact nm_e (br_t hl1 (rc_f56 g1 r2 g2 r3 D (by omega) (fun wq b13 k => H _ _ _ wq _ _ _ _ _ b13 ⟨r1, rfl, k, rc_dig_app r4 D, by decide, fun _ => ⟨q1, q2, g4, g5, by rw [g3, List.length_append], rc_nb_le q6 q7 hs, rc_nh_ok q7 hs⟩⟩)))
/-- the edge comes to an empty line: nothing happens -/
theorem rc_feedE {post : St2 → Prop} {f0_rules f0_size f0_line f0_coming f0_going f0_result f0_wanted f0_found f0_later : Int32} {a1 a2 a3 a4 a5 a6 a7 a8 a9 a10 a11 a12 a13 a15 a17 a18 : Nat → Int32} {a14 a16 : Nat → Int64} (hl : f0_line = nI 0) (H : post (f0_rules, f0_size, f0_line, 0, f0_going, f0_result, f0_wanted, f0_found, f0_later, a1, a2, a3, a4, a5, a6, a7, a8, a9, a10, a11, a12, a13, a14, a15, a16, a17, a18)) : wpX_feed post (f0_rules, f0_size, f0_line, f0_coming, f0_going, f0_result, f0_wanted, f0_found, f0_later, a1, a2, a3, a4, a5, a6, a7, a8, a9, a10, a11, a12, a13, a14, a15, a16, a17, a18) 4 :=
  br_t rfl ⟨1, br_t (by rw [hl]; decide) ⟨1, br_t (by decide) H⟩⟩
end
section
theorem rc_use {post : St2 → Prop} {f0_rules f0_size f0_line f0_coming f0_going f0_result f0_wanted f0_found f0_later : Int32} {a1 a2 a3 a4 a5 a6 a7 a8 a9 a10 a11 a12 a13 a15 a17 a18 : Nat → Int32} {a14 a16 : Nat → Int64} {l : Nat} {x : Int32} (hx : x = nI l) (hl : l ≤ 1) (H : ∀ b7 : Nat → Int32, (l = 1 → b7 0 = nI 0) → post (f0_rules, f0_size, nI l, f0_coming, f0_going, f0_result, f0_wanted, f0_found, f0_later, a1, a2, a3, a4, a5, a6, b7, a8, a9, a10, a11, a12, a13, a14, a15, a16, a17, a18)) : wpX_useFirst post (f0_rules, f0_size, f0_line, f0_coming, f0_going, f0_result, f0_wanted, f0_found, f0_later, a1, a2, a3, a4, a5, a6, a7, a8, a9, a10, a11, a12, a13, a14, a15, a16, a17, a18) x := by
  subst hx
  have hl : l = 0 ∨ l = 1 := by omega
  rcases hl with e | e
  · subst e
    exact ⟨1, br_t (by decide) (H a7 (fun z => absurd z (by decide)))⟩
  · subst e
    exact ⟨2, br_f (by decide) ⟨pk_in 0 5 (by decide), nm_e (nm_e (br_t (by decide) (H _ (fun _ => rc_u0 rfl))))⟩⟩
theorem rc_up0 {a : Nat → Int32} {v : Int32} {i : Nat} (hi : i < 5) (h : 0 < i → a 0 = v) : upd a (nI i).toNatClampNeg v 0 = v := by
  rw [nI_clamp (by omega)]
  by_cases e : 0 = i
  · rw [← e, pk_us]
  · rw [pk_un e]
    exact h (by omega)
theorem rc_begin {post : St2 → Prop} {f0_rules f0_size f0_line f0_coming f0_going f0_result f0_wanted f0_found f0_later : Int32} {a1 a2 a3 a4 a5 a6 a7 a8 a9 a10 a11 a12 a13 a15 a17 a18 : Nat → Int32} {a14 a16 : Nat → Int64} (H : ∀ b8 b9 b10 : Nat → Int32, b8 0 = nI 4 → b9 0 = nI 5 → b10 0 = nI 0 → post (f0_rules, f0_size, f0_line, f0_coming, f0_going, 0, 1, f0_found, f0_later, a1, a2, a3, a4, a5, a6, a7, b8, b9, b10, a11, a12, a13, a14, a15, a16, a17, a18)) : wpX_begin post (f0_rules, f0_size, f0_line, f0_coming, f0_going, f0_result, f0_wanted, f0_found, f0_later, a1, a2, a3, a4, a5, a6, a7, a8, a9, a10, a11, a12, a13, a14, a15, a16, a17, a18) := by
  refine pk_loop (fun n i (s : (Nat → Int32) × (Nat → Int32) × (Nat → Int32)) => wX_begin_2 post f0_rules f0_size f0_line f0_coming f0_going f0_result f0_wanted f0_found f0_later n (nI i) a1 a2 a3 a4 a5 a6 a7 (s.1) (s.2.1) (s.2.2) a11 a12 a13 a14 a15 a16 a17 a18) (fun i s => 0 < i → s.1 0 = nI 4 ∧ s.2.1 0 = nI 5 ∧ s.2.2 0 = nI 0) 5 0 (a8, a9, a10) (by decide) (fun z => absurd z (by decide)) ?_ ?_
  · intro n s hI
    have t := hI (by decide)
    exact pk_le 5 5 (fun _ => H _ _ _ t.1 t.2.1 t.2.2) (fun z => absurd z (by decide))
  · intro n i s hi hI hw
    exact pk_le 5 i (fun z => absurd z (by omega)) (fun _ => ⟨pk_in i 5 hi, nm_e ⟨pk_in i 5 hi, nm_e ⟨pk_in i 5 hi, nm_e (nm_r (nI_1 i) (hw (_, _, _) (fun _ => ⟨rc_up0 hi (fun z => (hI z).1), rc_up0 hi (fun z => (hI z).2.1), rc_up0 hi (fun z => (hI z).2.2)⟩)))⟩⟩⟩)
theorem rc_code {post : Int32 → Prop} {f0_rules f0_size f0_line f0_coming f0_going f0_result f0_wanted f0_found f0_later : Int32} {a1 a2 a3 a4 a5 a6 a7 a8 a9 a10 a11 a12 a13 a15 a17 a18 : Nat → Int32} {a14 a16 : Nat → Int64} {o : List Nat} (hr : f0_result = nI o.length) (h13 : rc_ar a13 o) (hl : o.length ≤ 12) (H : post (nI (rc_cd o))) : wpX_codeOfResult post (f0_rules, f0_size, f0_line, f0_coming, f0_going, f0_result, f0_wanted, f0_found, f0_later, a1, a2, a3, a4, a5, a6, a7, a8, a9, a10, a11, a12, a13, a14, a15, a16, a17, a18) := by
  subst hr
  refine pk_loop (fun n i (s : Int32) => wX_codeOfResult_4 post f0_rules f0_size f0_line f0_coming f0_going (nI o.length) f0_wanted f0_found f0_later a1 a2 a3 a4 a5 a6 a7 a8 a9 a10 a11 a12 a13 a14 a15 a16 a17 a18 n s (nI i)) (fun i s => s = nI (rc_cd (o.take i))) o.length 0 1 (by omega) rfl ?_ ?_
  · intro n s hI
    have t : s = nI (rc_cd (o.take o.length)) := hI
    rw [List.take_length] at t
    exact pk_le o.length o.length (fun _ => by rw [t]; exact H) (fun z => absurd z (by omega))
  · intro n i s hi hI hw
    refine pk_le o.length i (fun z => absurd z (by omega)) (fun _ => ⟨pk_in i 12 (by omega), nm_e (nm_r (nI_1 i) (hw _ ?_))⟩)
    show 4 * s + a13 (nI i).toNatClampNeg = nI (rc_cd (o.take (i + 1)))
    rw [rc_take hi, rc_cd_snoc, nI_clamp (by omega), h13 i hi, show s = nI (rc_cd (o.take i)) from hI, rc_step4]
theorem rc_rwl {post : St2 → Prop} {l kd fr it lf rt : Nat} {w : List Nat} (hw : rc_dig w) (hwl : w.length ≤ 12) : ∀ (k i b h : Nat) (o : List Nat) (f0_rules f0_size f0_line f0_coming f0_going f0_result f0_wanted f0_found f0_later : Int32) (a1 a2 a3 a4 a5 a6 a7 a8 a9 a10 a11 a12 a13 a15 a17 a18 : Nat → Int32) (a14 a16 : Nat → Int64), i + k = w.length → rc_R l kd fr it lf rt b h o f0_line f0_result a1 a2 a3 a4 a5 a7 a8 a9 a10 a13 → f0_size = nI w.length → rc_ar a6 w → o.length + (l + 1) * k + 2 ≤ 12 →
    (∀ (f0_comingq f0_goingq f0_resultq f0_wantedq : Int32) (a8q a9q a10q a11q a12q a13q : Nat → Int32), f0_resultq = nI (o ++ rc_run l kd fr it lf rt b h (w.drop i ++ [4])).length → rc_ar a13q (o ++ rc_run l kd fr it lf rt b h (w.drop i ++ [4])) → rc_dig (o ++ rc_run l kd fr it lf rt b h (w.drop i ++ [4])) → post (f0_rules, f0_size, f0_line, f0_comingq, f0_goingq, f0_resultq, f0_wantedq, f0_found, f0_later, a1, a2, a3, a4, a5, a6, a7, a8q, a9q, a10q, a11q, a12q, a13q, a14, a15, a16, a17, a18)) → wX_runWord_11 post (k + 1) (nI i) f0_rules f0_size f0_line f0_coming f0_going f0_result f0_wanted f0_found f0_later a1 a2 a3 a4 a5 a6 a7 a8 a9 a10 a11 a12 a13 a14 a15 a16 a17 a18 := by
  intro k
  induction k with
  | zero =>
    intro i b h o f0_rules f0_size f0_line f0_coming f0_going f0_result f0_wanted f0_found f0_later a1 a2 a3 a4 a5 a6 a7 a8 a9 a10 a11 a12 a13 a15 a17 a18 a14 a16 hi hR hz h6 ho H
    have E : o ++ rc_run l kd fr it lf rt b h (w.drop i ++ [4]) = o ++ rc_em l kd fr it lf rt b h 4 := by
      rw [List.drop_eq_nil_of_le (by omega)]
      simp [rc_run]
    rw [E] at H
    exact pk_le w.length i (fun _ => rc_feed (s := 4) rfl hR (by omega) (by decide) (fun f0_comingq f0_goingq f0_resultq f0_wantedq a8q a9q a10q a11q a12q a13q hR' => H f0_comingq f0_goingq f0_resultq f0_wantedq a8q a9q a10q a11q a12q a13q hR'.2.1 hR'.2.2.1 hR'.2.2.2.1)) (fun z => absurd z (by omega)) hz
  | succ k ih =>
    intro i b h o f0_rules f0_size f0_line f0_coming f0_going f0_result f0_wanted f0_found f0_later a1 a2 a3 a4 a5 a6 a7 a8 a9 a10 a11 a12 a13 a15 a17 a18 a14 a16 hi hR hz h6 ho H
    have hil : i < w.length := by omega
    have hdi := rc_dig_at hw hil
    have hlen := rc_em_len (l := l) (kd := kd) (fr := fr) (it := it) (lf := lf) (rt := rt) (b := b) (h := h) (s := w.getD i 0)
    have E : o ++ rc_run l kd fr it lf rt b h (w.drop i ++ [4]) = (o ++ rc_em l kd fr it lf rt b h (w.getD i 0)) ++ rc_run l kd fr it lf rt (rc_nb kd b h (w.getD i 0)) (rc_nh kd h (w.getD i 0)) (w.drop (i + 1) ++ [4]) := by
      rw [rc_drop hil, List.cons_append, rc_run, List.append_assoc]
    rw [E] at H
    rw [Nat.mul_succ] at ho
    refine pk_le w.length i (fun z => absurd z (by omega)) (fun _ => ⟨pk_in i 12 (by omega), rc_feed (s := w.getD i 0) (by rw [nI_clamp (by omega)]; exact h6 i hil) hR (by omega) (by omega) (fun f0_comingq f0_goingq f0_resultq f0_wantedq a8q a9q a10q a11q a12q a13q hR' => nm_r (nI_1 i) (ih (i + 1) _ _ _ f0_rules f0_size f0_line f0_comingq f0_goingq f0_resultq f0_wantedq f0_found f0_later a1 a2 a3 a4 a5 a6 a7 a8q a9q a10q a11q a12q a13q a15 a17 a18 a14 a16 (by omega) hR' hz h6 ?_ H))⟩) hz
    rw [List.length_append]
    omega
theorem rc_runWord {post : St2 → Prop} {f0_rules f0_size f0_line f0_coming f0_going f0_result f0_wanted f0_found f0_later : Int32} {a1 a2 a3 a4 a5 a6 a7 a8 a9 a10 a11 a12 a13 a15 a17 a18 : Nat → Int32} {a14 a16 : Nat → Int64} {l kd fr it lf rt : Nat} {w o : List Nat} {x : Int32} (hx : x = nI l) (hl : l ≤ 1) (hr : l = 1 → rc_rule kd fr it lf rt a1 a2 a3 a4 a5) (hs : f0_size = nI w.length) (h6 : rc_ar a6 w) (hw : rc_dig w) (hb : (l + 1) * w.length + 2 ≤ 12) (ho : rc_run l kd fr it lf rt 4 5 (w ++ [4]) = o)
    (H : ∀ (b7 : Nat → Int32) (f0_comingq f0_goingq f0_resultq f0_wantedq : Int32) (a8q a9q a10q a11q a12q a13q : Nat → Int32), f0_resultq = nI o.length → rc_ar a13q o → rc_dig o → post (f0_rules, f0_size, nI l, f0_comingq, f0_goingq, f0_resultq, f0_wantedq, f0_found, f0_later, a1, a2, a3, a4, a5, a6, b7, a8q, a9q, a10q, a11q, a12q, a13q, a14, a15, a16, a17, a18)) : wpX_runWord post (f0_rules, f0_size, f0_line, f0_coming, f0_going, f0_result, f0_wanted, f0_found, f0_later, a1, a2, a3, a4, a5, a6, a7, a8, a9, a10, a11, a12, a13, a14, a15, a16, a17, a18) x := by
  subst ho
  have hwl : w.length ≤ 12 := by
    have : 1 * w.length ≤ (l + 1) * w.length := Nat.mul_le_mul_right _ (by omega)
    omega
  refine rc_use (f0_line := f0_line) hx hl (fun b7 h7 => rc_begin (fun b8 b9 b10 h8 h9 h10 => ⟨w.length + 1, rc_rwl (l := l) (kd := kd) (fr := fr) (it := it) (lf := lf) (rt := rt) hw hwl w.length 0 4 5 [] f0_rules f0_size _ f0_coming f0_going _ _ f0_found f0_later a1 a2 a3 a4 a5 a6 _ _ _ _ a11 a12 a13 a15 a17 a18 a14 a16 (by omega) ⟨rfl, rfl, rc_ar_nil, rc_dig_nil, hl, fun z => ⟨hr z, h7 z, h8, h9, h10, by decide, Or.inr rfl⟩⟩ hs h6 ?_ ?_⟩))
  · simpa using hb
  · exact fun f0_comingq f0_goingq f0_resultq f0_wantedq a8q a9q a10q a11q a12q a13q => H b7 f0_comingq f0_goingq f0_resultq f0_wantedq a8q a9q a10q a11q a12q a13q
theorem rc_dgx : ∀ k, k < 6 → (((2 * nI k) &&& 31 : Int32).toBitVec.smod 32).toNat = 2 * k := by decide
theorem rc_dg {num k : Nat} (hn : num < 1024) (hk : k < 6) : (nI num >>> ((2 * nI k) &&& 31)) &&& 3 = nI (num / 4 ^ k % 4) := by
  have h1 : num / 2 ^ (2 * k) ≤ num := Nat.div_le_self _ _
  rw [pk_shrN (by omega) _ (2 * k) (rc_dgx k hk), pk_andN (by omega) 2 (by decide), Nat.pow_mul]
theorem rc_rnl {post : Int32 → St2 → Prop} {l kd fr it lf rt num : Nat} (hn : num < 1024) : ∀ (k b h : Nat) (o : List Nat) (f0_rules f0_size f0_line f0_coming f0_going f0_result f0_wanted f0_found f0_later : Int32) (a1 a2 a3 a4 a5 a6 a7 a8 a9 a10 a11 a12 a13 a15 a17 a18 : Nat → Int32) (a14 a16 : Nat → Int64), k ≤ 5 → rc_R l kd fr it lf rt b h o f0_line f0_result a1 a2 a3 a4 a5 a7 a8 a9 a10 a13 → o.length + (l + 1) * k + 2 ≤ 12 →
    (∀ (f0_comingq f0_goingq f0_resultq f0_wantedq : Int32) (a8q a9q a10q a11q a12q a13q : Nat → Int32), post (nI (rc_cd (o ++ rc_run l kd fr it lf rt b h (rc_dl num k ++ [4])))) (f0_rules, f0_size, f0_line, f0_comingq, f0_goingq, f0_resultq, f0_wantedq, f0_found, f0_later, a1, a2, a3, a4, a5, a6, a7, a8q, a9q, a10q, a11q, a12q, a13q, a14, a15, a16, a17, a18)) → wX_runNumber_8 post (nI num) (k + 1) (nI k - 1) f0_rules f0_size f0_line f0_coming f0_going f0_result f0_wanted f0_found f0_later a1 a2 a3 a4 a5 a6 a7 a8 a9 a10 a11 a12 a13 a14 a15 a16 a17 a18 := by
  intro k
  induction k with
  | zero =>
    intro b h o f0_rules f0_size f0_line f0_coming f0_going f0_result f0_wanted f0_found f0_later a1 a2 a3 a4 a5 a6 a7 a8 a9 a10 a11 a12 a13 a15 a17 a18 a14 a16 hk hR ho H
    have hlen := rc_em_len (l := l) (kd := kd) (fr := fr) (it := it) (lf := lf) (rt := rt) (b := b) (h := h) (s := 4)
    have hl1 : l ≤ 1 := hR.2.2.2.2.1
    have E : o ++ rc_run l kd fr it lf rt b h (rc_dl num 0 ++ [4]) = o ++ rc_em l kd fr it lf rt b h 4 := by
      simp [rc_run, rc_dl]
    rw [E] at H
    refine br_t (by decide) (rc_feed (s := 4) rfl hR (by omega) (by decide) (fun f0_comingq f0_goingq f0_resultq f0_wantedq a8q a9q a10q a11q a12q a13q hR' => rc_code hR'.2.1 hR'.2.2.1 ?_ (H f0_comingq f0_goingq f0_resultq f0_wantedq a8q a9q a10q a11q a12q a13q)))
    rw [List.length_append]
    omega
  | succ k ih =>
    intro b h o f0_rules f0_size f0_line f0_coming f0_going f0_result f0_wanted f0_found f0_later a1 a2 a3 a4 a5 a6 a7 a8 a9 a10 a11 a12 a13 a15 a17 a18 a14 a16 hk hR ho H
    have hlen := rc_em_len (l := l) (kd := kd) (fr := fr) (it := it) (lf := lf) (rt := rt) (b := b) (h := h) (s := num / 4 ^ k % 4)
    have E : o ++ rc_run l kd fr it lf rt b h (rc_dl num (k + 1) ++ [4]) = (o ++ rc_em l kd fr it lf rt b h (num / 4 ^ k % 4)) ++ rc_run l kd fr it lf rt (rc_nb kd b h (num / 4 ^ k % 4)) (rc_nh kd h (num / 4 ^ k % 4)) (rc_dl num k ++ [4]) := by
      rw [rc_dl, List.cons_append, rc_run, List.append_assoc]
    rw [E] at H
    rw [Nat.mul_succ] at ho
    rw [nI_pred]
    refine br_f (nI_pos (by omega)) (rc_feed (s := num / 4 ^ k % 4) (rc_dg hn (by omega)) hR (by omega) (by omega) (fun f0_comingq f0_goingq f0_resultq f0_wantedq a8q a9q a10q a11q a12q a13q hR' => nm_r (Int32.sub_eq_add_neg _ _).symm (ih _ _ _ f0_rules f0_size f0_line f0_comingq f0_goingq f0_resultq f0_wantedq f0_found f0_later a1 a2 a3 a4 a5 a6 a7 a8q a9q a10q a11q a12q a13q a15 a17 a18 a14 a16 (by omega) hR' ?_ H)))
    rw [List.length_append]
    omega
theorem rc_runNumber {post : Int32 → St2 → Prop} {f0_rules f0_size f0_line f0_coming f0_going f0_result f0_wanted f0_found f0_later : Int32} {a1 a2 a3 a4 a5 a6 a7 a8 a9 a10 a11 a12 a13 a15 a17 a18 : Nat → Int32} {a14 a16 : Nat → Int64} {l kd fr it lf rt num n : Nat} {x y : Int32} (hx : x = nI num) (hy : y = nI n) (hnum : num < 1024) (hn : n ≤ 5) (hl : f0_line = nI l) (hl1 : l ≤ 1) (hr : l = 1 → rc_rule kd fr it lf rt a1 a2 a3 a4 a5) (h7 : l = 1 → a7 0 = nI 0) (hb : (l + 1) * n + 2 ≤ 12)
    (H : ∀ (f0_comingq f0_goingq f0_resultq f0_wantedq : Int32) (a8q a9q a10q a11q a12q a13q : Nat → Int32), post (nI (rc_cd (rc_run l kd fr it lf rt 4 5 (rc_dl num n ++ [4])))) (f0_rules, f0_size, f0_line, f0_comingq, f0_goingq, f0_resultq, f0_wantedq, f0_found, f0_later, a1, a2, a3, a4, a5, a6, a7, a8q, a9q, a10q, a11q, a12q, a13q, a14, a15, a16, a17, a18)) : wpX_runNumber post (f0_rules, f0_size, f0_line, f0_coming, f0_going, f0_result, f0_wanted, f0_found, f0_later, a1, a2, a3, a4, a5, a6, a7, a8, a9, a10, a11, a12, a13, a14, a15, a16, a17, a18) x y := by
  subst hx hy
  refine rc_begin (fun b8 b9 b10 h8 h9 h10 => nm_e ⟨n + 1, rc_rnl (l := l) (kd := kd) (fr := fr) (it := it) (lf := lf) (rt := rt) hnum n 4 5 [] f0_rules f0_size f0_line f0_coming f0_going _ _ f0_found f0_later a1 a2 a3 a4 a5 a6 a7 _ _ _ a11 a12 a13 a15 a17 a18 a14 a16 hn ⟨hl, rfl, rc_ar_nil, rc_dig_nil, hl1, fun z => ⟨hr z, h7 z, h8, h9, h10, by decide, Or.inr rfl⟩⟩ ?_ ?_⟩)
  · simpa using hb
  · exact fun f0_comingq f0_goingq f0_resultq f0_wantedq a8q a9q a10q a11q a12q a13q => H f0_comingq f0_goingq f0_resultq f0_wantedq a8q a9q a10q a11q a12q a13q
end
section
/-- what lives between two calls: R rules (0 or 1), the word w -/
def rc_P (R kd fr it lf rt : Nat) (w : List Nat) (f0_rules f0_size : Int32) (a1 a2 a3 a4 a5 a6 : Nat → Int32) : Prop :=
  f0_rules = nI R ∧ R ≤ 1 ∧ f0_size = nI w.length ∧ rc_ar a6 w ∧ rc_dig w ∧ (R = 1 → rc_rule kd fr it lf rt a1 a2 a3 a4 a5)
theorem rc_after0 {post : Int32 → St2 → Prop} {f0_rules f0_size f0_line f0_coming f0_going f0_result f0_wanted f0_found f0_later : Int32} {a1 a2 a3 a4 a5 a6 a7 a8 a9 a10 a11 a12 a13 a15 a17 a18 : Nat → Int32} {a14 a16 : Nat → Int64} {R kd fr it lf rt : Nat} {w : List Nat} (hP : rc_P R kd fr it lf rt w f0_rules f0_size a1 a2 a3 a4 a5 a6) (hw : w.length ≤ 10)
    (H : ∀ {f0_rules' f0_size' f0_line' f0_coming' f0_going' f0_result' f0_wanted' f0_found' f0_later' : Int32} {a1' a2' a3' a4' a5' a6' a7' a8' a9' a10' a11' a12' a13' a15' a17' a18' : Nat → Int32} {a14' a16' : Nat → Int64}, rc_P R kd fr it lf rt w f0_rules' f0_size' a1' a2' a3' a4' a5' a6' → post (nI (rc_cd w)) (f0_rules', f0_size', f0_line', f0_coming', f0_going', f0_result', f0_wanted', f0_found', f0_later', a1', a2', a3', a4', a5', a6', a7', a8', a9', a10', a11', a12', a13', a14', a15', a16', a17', a18')) : wpX_after post (f0_rules, f0_size, f0_line, f0_coming, f0_going, f0_result, f0_wanted, f0_found, f0_later, a1, a2, a3, a4, a5, a6, a7, a8, a9, a10, a11, a12, a13, a14, a15, a16, a17, a18) 0 := by
  obtain ⟨p1, p2, p3, p4, p5, p6⟩ := hP
  refine br_f (by decide) (br_t (by rw [p1]; exact nI_pos' (by omega)) (rc_runWord (l := 0) (kd := kd) (fr := fr) (it := it) (lf := lf) (rt := rt) rfl (by decide) (fun z => absurd z (by decide)) p3 p4 p5 (by omega) (rc_run0 w 4 5 p5) (fun b7 f0_comingq f0_goingq f0_resultq f0_wantedq a8q a9q a10q a11q a12q a13q g1 g2 g3 => rc_code g1 g2 (by omega) (H ⟨p1, p2, p3, p4, p5, p6⟩))))
theorem rc_after1 {post : Int32 → St2 → Prop} {f0_rules f0_size f0_line f0_coming f0_going f0_result f0_wanted f0_found f0_later : Int32} {a1 a2 a3 a4 a5 a6 a7 a8 a9 a10 a11 a12 a13 a15 a17 a18 : Nat → Int32} {a14 a16 : Nat → Int64} {kd fr it lf rt : Nat} {w o : List Nat} (hP : rc_P 1 kd fr it lf rt w f0_rules f0_size a1 a2 a3 a4 a5 a6) (hw : w.length ≤ 5) (ho : rc_run 1 kd fr it lf rt 4 5 (w ++ [4]) = o) (hol : o.length ≤ 12)
    (H : ∀ {f0_rules' f0_size' f0_line' f0_coming' f0_going' f0_result' f0_wanted' f0_found' f0_later' : Int32} {a1' a2' a3' a4' a5' a6' a7' a8' a9' a10' a11' a12' a13' a15' a17' a18' : Nat → Int32} {a14' a16' : Nat → Int64}, rc_P 1 kd fr it lf rt w f0_rules' f0_size' a1' a2' a3' a4' a5' a6' → post (nI (rc_cd o)) (f0_rules', f0_size', f0_line', f0_coming', f0_going', f0_result', f0_wanted', f0_found', f0_later', a1', a2', a3', a4', a5', a6', a7', a8', a9', a10', a11', a12', a13', a14', a15', a16', a17', a18')) : wpX_after post (f0_rules, f0_size, f0_line, f0_coming, f0_going, f0_result, f0_wanted, f0_found, f0_later, a1, a2, a3, a4, a5, a6, a7, a8, a9, a10, a11, a12, a13, a14, a15, a16, a17, a18) 1 := by
  obtain ⟨p1, p2, p3, p4, p5, p6⟩ := hP
  exact br_f (by decide) (br_t (by rw [p1]; decide) (rc_runWord (l := 1) rfl (by decide) p6 p3 p4 p5 (by omega) ho (fun b7 f0_comingq f0_goingq f0_resultq f0_wantedq a8q a9q a10q a11q a12q a13q g1 g2 g3 => rc_code g1 g2 hol (H ⟨p1, p2, p3, p4, p5, p6⟩))))
theorem rc_afterB {post : Int32 → St2 → Prop} {f0_rules f0_size f0_line f0_coming f0_going f0_result f0_wanted f0_found f0_later : Int32} {a1 a2 a3 a4 a5 a6 a7 a8 a9 a10 a11 a12 a13 a15 a17 a18 : Nat → Int32} {a14 a16 : Nat → Int64} {R kd fr it lf rt i : Nat} {w : List Nat} {x : Int32} (hx : x = nI i) (hi : R < i) (hi2 : i < 2 ^ 31) (hP : rc_P R kd fr it lf rt w f0_rules f0_size a1 a2 a3 a4 a5 a6)
    (H : ∀ {f0_rules' f0_size' f0_line' f0_coming' f0_going' f0_result' f0_wanted' f0_found' f0_later' : Int32} {a1' a2' a3' a4' a5' a6' a7' a8' a9' a10' a11' a12' a13' a15' a17' a18' : Nat → Int32} {a14' a16' : Nat → Int64}, rc_P R kd fr it lf rt w f0_rules' f0_size' a1' a2' a3' a4' a5' a6' → post (-1) (f0_rules', f0_size', f0_line', f0_coming', f0_going', f0_result', f0_wanted', f0_found', f0_later', a1', a2', a3', a4', a5', a6', a7', a8', a9', a10', a11', a12', a13', a14', a15', a16', a17', a18')) : wpX_after post (f0_rules, f0_size, f0_line, f0_coming, f0_going, f0_result, f0_wanted, f0_found, f0_later, a1, a2, a3, a4, a5, a6, a7, a8, a9, a10, a11, a12, a13, a14, a15, a16, a17, a18) x :=
  br_f (by rw [hx]; exact nI_pos hi2) (br_f (by rw [hx, hP.1]; exact nI_ge hi hi2) (H hP))
theorem rc_afterM {post : Int32 → St2 → Prop} {f0_rules f0_size f0_line f0_coming f0_going f0_result f0_wanted f0_found f0_later : Int32} {a1 a2 a3 a4 a5 a6 a7 a8 a9 a10 a11 a12 a13 a15 a17 a18 : Nat → Int32} {a14 a16 : Nat → Int64} {R kd fr it lf rt : Nat} {w : List Nat} (hP : rc_P R kd fr it lf rt w f0_rules f0_size a1 a2 a3 a4 a5 a6)
    (H : ∀ {f0_rules' f0_size' f0_line' f0_coming' f0_going' f0_result' f0_wanted' f0_found' f0_later' : Int32} {a1' a2' a3' a4' a5' a6' a7' a8' a9' a10' a11' a12' a13' a15' a17' a18' : Nat → Int32} {a14' a16' : Nat → Int64}, rc_P R kd fr it lf rt w f0_rules' f0_size' a1' a2' a3' a4' a5' a6' → post (-1) (f0_rules', f0_size', f0_line', f0_coming', f0_going', f0_result', f0_wanted', f0_found', f0_later', a1', a2', a3', a4', a5', a6', a7', a8', a9', a10', a11', a12', a13', a14', a15', a16', a17', a18')) : wpX_after post (f0_rules, f0_size, f0_line, f0_coming, f0_going, f0_result, f0_wanted, f0_found, f0_later, a1, a2, a3, a4, a5, a6, a7, a8, a9, a10, a11, a12, a13, a14, a15, a16, a17, a18) (-1) :=
  br_t (by decide) (H hP)
theorem rc_letterM {post : Int32 → St2 → Prop} {f0_rules f0_size f0_line f0_coming f0_going f0_result f0_wanted f0_found f0_later : Int32} {a1 a2 a3 a4 a5 a6 a7 a8 a9 a10 a11 a12 a13 a15 a17 a18 : Nat → Int32} {a14 a16 : Nat → Int64} {R kd fr it lf rt : Nat} {w o : List Nat} (hP : rc_P R kd fr it lf rt w f0_rules f0_size a1 a2 a3 a4 a5 a6) (hb : (R + 1) * w.length + 2 ≤ 12) (ho : rc_run R kd fr it lf rt 4 5 (w ++ [4]) = o)
    (H : ∀ {f0_rules' f0_size' f0_line' f0_coming' f0_going' f0_result' f0_wanted' f0_found' f0_later' : Int32} {a1' a2' a3' a4' a5' a6' a7' a8' a9' a10' a11' a12' a13' a15' a17' a18' : Nat → Int32} {a14' a16' : Nat → Int64}, rc_P R kd fr it lf rt w f0_rules' f0_size' a1' a2' a3' a4' a5' a6' → post (-4) (f0_rules', f0_size', f0_line', f0_coming', f0_going', f0_result', f0_wanted', f0_found', f0_later', a1', a2', a3', a4', a5', a6', a7', a8', a9', a10', a11', a12', a13', a14', a15', a16', a17', a18')) : wpX_letter post (f0_rules, f0_size, f0_line, f0_coming, f0_going, f0_result, f0_wanted, f0_found, f0_later, a1, a2, a3, a4, a5, a6, a7, a8, a9, a10, a11, a12, a13, a14, a15, a16, a17, a18) (-1) := by
  obtain ⟨p1, p2, p3, p4, p5, p6⟩ := hP
  exact rc_runWord (f0_line := f0_line) p1 p2 p6 p3 p4 p5 hb ho (fun b7 f0_comingq f0_goingq f0_resultq f0_wantedq a8q a9q a10q a11q a12q a13q g1 g2 g3 => br_t (by decide) (H ⟨p1, p2, p3, p4, p5, p6⟩))
theorem rc_letterB {post : Int32 → St2 → Prop} {f0_rules f0_size f0_line f0_coming f0_going f0_result f0_wanted f0_found f0_later : Int32} {a1 a2 a3 a4 a5 a6 a7 a8 a9 a10 a11 a12 a13 a15 a17 a18 : Nat → Int32} {a14 a16 : Nat → Int64} {R kd fr it lf rt i : Nat} {w o : List Nat} {x : Int32} (hx : x = nI i) (hi2 : i < 2 ^ 31) (hP : rc_P R kd fr it lf rt w f0_rules f0_size a1 a2 a3 a4 a5 a6) (hb : (R + 1) * w.length + 2 ≤ 12) (ho : rc_run R kd fr it lf rt 4 5 (w ++ [4]) = o) (hi : o.length ≤ i)
    (H : ∀ {f0_rules' f0_size' f0_line' f0_coming' f0_going' f0_result' f0_wanted' f0_found' f0_later' : Int32} {a1' a2' a3' a4' a5' a6' a7' a8' a9' a10' a11' a12' a13' a15' a17' a18' : Nat → Int32} {a14' a16' : Nat → Int64}, rc_P R kd fr it lf rt w f0_rules' f0_size' a1' a2' a3' a4' a5' a6' → post (-4) (f0_rules', f0_size', f0_line', f0_coming', f0_going', f0_result', f0_wanted', f0_found', f0_later', a1', a2', a3', a4', a5', a6', a7', a8', a9', a10', a11', a12', a13', a14', a15', a16', a17', a18')) : wpX_letter post (f0_rules, f0_size, f0_line, f0_coming, f0_going, f0_result, f0_wanted, f0_found, f0_later, a1, a2, a3, a4, a5, a6, a7, a8, a9, a10, a11, a12, a13, a14, a15, a16, a17, a18) x := by
  obtain ⟨p1, p2, p3, p4, p5, p6⟩ := hP
  exact rc_runWord (f0_line := f0_line) p1 p2 p6 p3 p4 p5 hb ho (fun b7 f0_comingq f0_goingq f0_resultq f0_wantedq a8q a9q a10q a11q a12q a13q g1 g2 g3 => br_f (by rw [hx]; exact nI_pos hi2) (br_f (by rw [hx, g1]; exact nI_nlt hi hi2) (H ⟨p1, p2, p3, p4, p5, p6⟩)))
theorem rc_letterG {post : Int32 → St2 → Prop} {f0_rules f0_size f0_line f0_coming f0_going f0_result f0_wanted f0_found f0_later : Int32} {a1 a2 a3 a4 a5 a6 a7 a8 a9 a10 a11 a12 a13 a15 a17 a18 : Nat → Int32} {a14 a16 : Nat → Int64} {R kd fr it lf rt i : Nat} {w o : List Nat} {x : Int32} (hx : x = nI i) (hP : rc_P R kd fr it lf rt w f0_rules f0_size a1 a2 a3 a4 a5 a6) (hb : (R + 1) * w.length + 2 ≤ 12) (ho : rc_run R kd fr it lf rt 4 5 (w ++ [4]) = o) (hi : i < o.length) (hol : o.length ≤ 12)
    (H : ∀ {f0_rules' f0_size' f0_line' f0_coming' f0_going' f0_result' f0_wanted' f0_found' f0_later' : Int32} {a1' a2' a3' a4' a5' a6' a7' a8' a9' a10' a11' a12' a13' a15' a17' a18' : Nat → Int32} {a14' a16' : Nat → Int64}, rc_P R kd fr it lf rt w f0_rules' f0_size' a1' a2' a3' a4' a5' a6' → post (nI (o.getD i 0)) (f0_rules', f0_size', f0_line', f0_coming', f0_going', f0_result', f0_wanted', f0_found', f0_later', a1', a2', a3', a4', a5', a6', a7', a8', a9', a10', a11', a12', a13', a14', a15', a16', a17', a18')) : wpX_letter post (f0_rules, f0_size, f0_line, f0_coming, f0_going, f0_result, f0_wanted, f0_found, f0_later, a1, a2, a3, a4, a5, a6, a7, a8, a9, a10, a11, a12, a13, a14, a15, a16, a17, a18) x := by
  obtain ⟨p1, p2, p3, p4, p5, p6⟩ := hP
  refine rc_runWord (f0_line := f0_line) p1 p2 p6 p3 p4 p5 hb ho (fun b7 f0_comingq f0_goingq f0_resultq f0_wantedq a8q a9q a10q a11q a12q a13q g1 g2 g3 => br_f (by rw [hx]; exact nI_pos (by omega)) (br_t (by rw [hx, g1]; exact nI_lt hi (by omega)) ⟨by rw [hx]; exact vp_in_nI (by omega) (by decide), ?_⟩))
  have e : a13q x.toNatClampNeg = nI (o.getD i 0) := by rw [hx, nI_clamp (by omega)]; exact g2 i hi
  rw [e]
  exact H ⟨p1, p2, p3, p4, p5, p6⟩
theorem rc_apply {post : Int32 → St2 → Prop} {f0_rules f0_size f0_line f0_coming f0_going f0_result f0_wanted f0_found f0_later : Int32} {a1 a2 a3 a4 a5 a6 a7 a8 a9 a10 a11 a12 a13 a15 a17 a18 : Nat → Int32} {a14 a16 : Nat → Int64} {R kd fr it lf rt : Nat} {w o : List Nat} (hP : rc_P R kd fr it lf rt w f0_rules f0_size a1 a2 a3 a4 a5 a6) (hb : (R + 1) * w.length + 2 ≤ 12) (ho : rc_run R kd fr it lf rt 4 5 (w ++ [4]) = o) (hol : o.length ≤ 12)
    (H : ∀ {f0_rules' f0_size' f0_line' f0_coming' f0_going' f0_result' f0_wanted' f0_found' f0_later' : Int32} {a1' a2' a3' a4' a5' a6' a7' a8' a9' a10' a11' a12' a13' a15' a17' a18' : Nat → Int32} {a14' a16' : Nat → Int64}, rc_P R kd fr it lf rt o f0_rules' f0_size' a1' a2' a3' a4' a5' a6' → post (nI o.length) (f0_rules', f0_size', f0_line', f0_coming', f0_going', f0_result', f0_wanted', f0_found', f0_later', a1', a2', a3', a4', a5', a6', a7', a8', a9', a10', a11', a12', a13', a14', a15', a16', a17', a18')) : wpX_apply post (f0_rules, f0_size, f0_line, f0_coming, f0_going, f0_result, f0_wanted, f0_found, f0_later, a1, a2, a3, a4, a5, a6, a7, a8, a9, a10, a11, a12, a13, a14, a15, a16, a17, a18) := by
  obtain ⟨p1, p2, p3, p4, p5, p6⟩ := hP
  refine rc_runWord (f0_line := f0_line) p1 p2 p6 p3 p4 p5 hb ho (fun b7 f0_comingq f0_goingq f0_resultq f0_wantedq a8q a9q a10q a11q a12q a13q g1 g2 g3 => ?_)
  subst g1
  refine pk_loop (fun n i (s : Nat → Int32) => wX_apply_18 post f0_rules (nI o.length) (nI R) f0_comingq f0_goingq (nI o.length) f0_wantedq f0_found f0_later n (nI i) a1 a2 a3 a4 a5 s b7 a8q a9q a10q a11q a12q a13q a14 a15 a16 a17 a18) (fun i s => rc_ar s (o.take i)) o.length 0 a6 (by omega) ?_ ?_ ?_
  · exact rc_ar_nil
  · intro n s hI
    have t : rc_ar s (o.take o.length) := hI
    rw [List.take_length] at t
    exact pk_le o.length o.length (fun _ => H ⟨p1, p2, rfl, t, g3, p6⟩) (fun z => absurd z (by omega))
  · intro n i s hi hI hw
    refine pk_le o.length i (fun z => absurd z (by omega)) (fun _ => ⟨pk_in i 12 (by omega), pk_in i 12 (by omega), nm_e (nm_r (nI_1 i) (hw _ ?_))⟩)
    show rc_ar _ (o.take (i + 1))
    rw [rc_take hi]
    exact rc_ar_snoc hI (by rw [nI_clamp (by omega), List.length_take]; omega) (by rw [nI_clamp (by omega), g2 i hi, rc_nar (by have := rc_dig_at g3 hi; omega)])
theorem rc_clear {post : Int32 → St2 → Prop} {f0_rules f0_size f0_line f0_coming f0_going f0_result f0_wanted f0_found f0_later : Int32} {a1 a2 a3 a4 a5 a6 a7 a8 a9 a10 a11 a12 a13 a15 a17 a18 : Nat → Int32} {a14 a16 : Nat → Int64} {R kd fr it lf rt : Nat} {w : List Nat} (hP : rc_P R kd fr it lf rt w f0_rules f0_size a1 a2 a3 a4 a5 a6)
    (H : ∀ {f0_rules' f0_size' f0_line' f0_coming' f0_going' f0_result' f0_wanted' f0_found' f0_later' : Int32} {a1' a2' a3' a4' a5' a6' a7' a8' a9' a10' a11' a12' a13' a15' a17' a18' : Nat → Int32} {a14' a16' : Nat → Int64}, rc_P R kd fr it lf rt [] f0_rules' f0_size' a1' a2' a3' a4' a5' a6' → post (nI w.length) (f0_rules', f0_size', f0_line', f0_coming', f0_going', f0_result', f0_wanted', f0_found', f0_later', a1', a2', a3', a4', a5', a6', a7', a8', a9', a10', a11', a12', a13', a14', a15', a16', a17', a18')) : wpX_clear post (f0_rules, f0_size, f0_line, f0_coming, f0_going, f0_result, f0_wanted, f0_found, f0_later, a1, a2, a3, a4, a5, a6, a7, a8, a9, a10, a11, a12, a13, a14, a15, a16, a17, a18) := by
  obtain ⟨p1, p2, p3, p4, p5, p6⟩ := hP
  subst p3
  exact H ⟨p1, p2, rfl, rc_ar_nil, rc_dig_nil, p6⟩
theorem rc_dropN {post : Int32 → St2 → Prop} {f0_rules f0_size f0_line f0_coming f0_going f0_result f0_wanted f0_found f0_later : Int32} {a1 a2 a3 a4 a5 a6 a7 a8 a9 a10 a11 a12 a13 a15 a17 a18 : Nat → Int32} {a14 a16 : Nat → Int64} {R kd fr it lf rt i : Nat} {w : List Nat} {x : Int32} (hx : x = nI i) (hi : R ≤ i) (hi2 : i < 2 ^ 31) (hP : rc_P R kd fr it lf rt w f0_rules f0_size a1 a2 a3 a4 a5 a6)
    (H : ∀ {f0_rules' f0_size' f0_line' f0_coming' f0_going' f0_result' f0_wanted' f0_found' f0_later' : Int32} {a1' a2' a3' a4' a5' a6' a7' a8' a9' a10' a11' a12' a13' a15' a17' a18' : Nat → Int32} {a14' a16' : Nat → Int64}, rc_P R kd fr it lf rt w f0_rules' f0_size' a1' a2' a3' a4' a5' a6' → post (-4) (f0_rules', f0_size', f0_line', f0_coming', f0_going', f0_result', f0_wanted', f0_found', f0_later', a1', a2', a3', a4', a5', a6', a7', a8', a9', a10', a11', a12', a13', a14', a15', a16', a17', a18')) : wpX_drop post (f0_rules, f0_size, f0_line, f0_coming, f0_going, f0_result, f0_wanted, f0_found, f0_later, a1, a2, a3, a4, a5, a6, a7, a8, a9, a10, a11, a12, a13, a14, a15, a16, a17, a18) x :=
  br_f (by rw [hx]; exact nI_pos hi2) (br_f (by rw [hx, hP.1]; exact nI_nlt hi hi2) (H hP))
theorem rc_drop1 {post : Int32 → St2 → Prop} {f0_rules f0_size f0_line f0_coming f0_going f0_result f0_wanted f0_found f0_later : Int32} {a1 a2 a3 a4 a5 a6 a7 a8 a9 a10 a11 a12 a13 a15 a17 a18 : Nat → Int32} {a14 a16 : Nat → Int64} {kd fr it lf rt : Nat} {w : List Nat} (hP : rc_P 1 kd fr it lf rt w f0_rules f0_size a1 a2 a3 a4 a5 a6)
    (H : ∀ {f0_rules' f0_size' f0_line' f0_coming' f0_going' f0_result' f0_wanted' f0_found' f0_later' : Int32} {a1' a2' a3' a4' a5' a6' a7' a8' a9' a10' a11' a12' a13' a15' a17' a18' : Nat → Int32} {a14' a16' : Nat → Int64}, rc_P 0 kd fr it lf rt w f0_rules' f0_size' a1' a2' a3' a4' a5' a6' → post 0 (f0_rules', f0_size', f0_line', f0_coming', f0_going', f0_result', f0_wanted', f0_found', f0_later', a1', a2', a3', a4', a5', a6', a7', a8', a9', a10', a11', a12', a13', a14', a15', a16', a17', a18')) : wpX_drop post (f0_rules, f0_size, f0_line, f0_coming, f0_going, f0_result, f0_wanted, f0_found, f0_later, a1, a2, a3, a4, a5, a6, a7, a8, a9, a10, a11, a12, a13, a14, a15, a16, a17, a18) 0 := by
  obtain ⟨p1, p2, p3, p4, p5, p6⟩ := hP
  subst p1
  exact br_f (by decide) (br_t (by decide) (nm_r (show nI 1 - 1 = 0 from rfl) ⟨1, br_t (by decide) (H ⟨rfl, by decide, p3, p4, p5, fun z => absurd z (by decide)⟩)⟩))
theorem rc_lt1 {R : Nat} (h : R ≤ 1) : ¬ (0 : Int32) < nI R - 1 := by
  have h : R = 0 ∨ R = 1 := by omega
  rcases h with e | e
  · subst e; decide
  · subst e; decide
theorem rc_swap {post : Int32 → St2 → Prop} {f0_rules f0_size f0_line f0_coming f0_going f0_result f0_wanted f0_found f0_later : Int32} {a1 a2 a3 a4 a5 a6 a7 a8 a9 a10 a11 a12 a13 a15 a17 a18 : Nat → Int32} {a14 a16 : Nat → Int64} {R kd fr it lf rt : Nat} {w : List Nat} (hP : rc_P R kd fr it lf rt w f0_rules f0_size a1 a2 a3 a4 a5 a6)
    (H : ∀ {f0_rules' f0_size' f0_line' f0_coming' f0_going' f0_result' f0_wanted' f0_found' f0_later' : Int32} {a1' a2' a3' a4' a5' a6' a7' a8' a9' a10' a11' a12' a13' a15' a17' a18' : Nat → Int32} {a14' a16' : Nat → Int64}, rc_P R kd fr it lf rt w f0_rules' f0_size' a1' a2' a3' a4' a5' a6' → post (-4) (f0_rules', f0_size', f0_line', f0_coming', f0_going', f0_result', f0_wanted', f0_found', f0_later', a1', a2', a3', a4', a5', a6', a7', a8', a9', a10', a11', a12', a13', a14', a15', a16', a17', a18')) : wpX_swap post (f0_rules, f0_size, f0_line, f0_coming, f0_going, f0_result, f0_wanted, f0_found, f0_later, a1, a2, a3, a4, a5, a6, a7, a8, a9, a10, a11, a12, a13, a14, a15, a16, a17, a18) 0 :=
  br_f (by decide) (br_f (by rw [hP.1]; exact rc_lt1 hP.2.1) (H hP))
theorem rc_commute {post : Int32 → St2 → Prop} {f0_rules f0_size f0_line f0_coming f0_going f0_result f0_wanted f0_found f0_later : Int32} {a1 a2 a3 a4 a5 a6 a7 a8 a9 a10 a11 a12 a13 a15 a17 a18 : Nat → Int32} {a14 a16 : Nat → Int64} {R kd fr it lf rt : Nat} {w : List Nat} {y : Int32} (hP : rc_P R kd fr it lf rt w f0_rules f0_size a1 a2 a3 a4 a5 a6)
    (H : ∀ {f0_rules' f0_size' f0_line' f0_coming' f0_going' f0_result' f0_wanted' f0_found' f0_later' : Int32} {a1' a2' a3' a4' a5' a6' a7' a8' a9' a10' a11' a12' a13' a15' a17' a18' : Nat → Int32} {a14' a16' : Nat → Int64}, rc_P R kd fr it lf rt w f0_rules' f0_size' a1' a2' a3' a4' a5' a6' → post (-4) (f0_rules', f0_size', f0_line', f0_coming', f0_going', f0_result', f0_wanted', f0_found', f0_later', a1', a2', a3', a4', a5', a6', a7', a8', a9', a10', a11', a12', a13', a14', a15', a16', a17', a18')) : wpX_commute post (f0_rules, f0_size, f0_line, f0_coming, f0_going, f0_result, f0_wanted, f0_found, f0_later, a1, a2, a3, a4, a5, a6, a7, a8, a9, a10, a11, a12, a13, a14, a15, a16, a17, a18) 0 y :=
  br_f (by decide) (br_f (by rw [hP.1]; exact rc_lt1 hP.2.1) (H hP))
theorem rc_idleN {post : Int32 → St2 → Prop} {f0_rules f0_size f0_line f0_coming f0_going f0_result f0_wanted f0_found f0_later : Int32} {a1 a2 a3 a4 a5 a6 a7 a8 a9 a10 a11 a12 a13 a15 a17 a18 : Nat → Int32} {a14 a16 : Nat → Int64} {R kd fr it lf rt i : Nat} {w : List Nat} {x y : Int32} (hx : x = nI i) (hi : R ≤ i) (hi2 : i < 2 ^ 31) (hP : rc_P R kd fr it lf rt w f0_rules f0_size a1 a2 a3 a4 a5 a6)
    (H : ∀ {f0_rules' f0_size' f0_line' f0_coming' f0_going' f0_result' f0_wanted' f0_found' f0_later' : Int32} {a1' a2' a3' a4' a5' a6' a7' a8' a9' a10' a11' a12' a13' a15' a17' a18' : Nat → Int32} {a14' a16' : Nat → Int64}, rc_P R kd fr it lf rt w f0_rules' f0_size' a1' a2' a3' a4' a5' a6' → post (-4) (f0_rules', f0_size', f0_line', f0_coming', f0_going', f0_result', f0_wanted', f0_found', f0_later', a1', a2', a3', a4', a5', a6', a7', a8', a9', a10', a11', a12', a13', a14', a15', a16', a17', a18')) : wpX_idle post (f0_rules, f0_size, f0_line, f0_coming, f0_going, f0_result, f0_wanted, f0_found, f0_later, a1, a2, a3, a4, a5, a6, a7, a8, a9, a10, a11, a12, a13, a14, a15, a16, a17, a18) x y :=
  br_f (by rw [hx]; exact nI_pos hi2) (br_f (by rw [hx, hP.1]; exact nI_nlt hi hi2) (H hP))
theorem rc_idleM {post : Int32 → St2 → Prop} {f0_rules f0_size f0_line f0_coming f0_going f0_result f0_wanted f0_found f0_later : Int32} {a1 a2 a3 a4 a5 a6 a7 a8 a9 a10 a11 a12 a13 a15 a17 a18 : Nat → Int32} {a14 a16 : Nat → Int64} {R kd fr it lf rt : Nat} {w : List Nat} {y : Int32} (hP : rc_P R kd fr it lf rt w f0_rules f0_size a1 a2 a3 a4 a5 a6)
    (H : ∀ {f0_rules' f0_size' f0_line' f0_coming' f0_going' f0_result' f0_wanted' f0_found' f0_later' : Int32} {a1' a2' a3' a4' a5' a6' a7' a8' a9' a10' a11' a12' a13' a15' a17' a18' : Nat → Int32} {a14' a16' : Nat → Int64}, rc_P R kd fr it lf rt w f0_rules' f0_size' a1' a2' a3' a4' a5' a6' → post (-4) (f0_rules', f0_size', f0_line', f0_coming', f0_going', f0_result', f0_wanted', f0_found', f0_later', a1', a2', a3', a4', a5', a6', a7', a8', a9', a10', a11', a12', a13', a14', a15', a16', a17', a18')) : wpX_idle post (f0_rules, f0_size, f0_line, f0_coming, f0_going, f0_result, f0_wanted, f0_found, f0_later, a1, a2, a3, a4, a5, a6, a7, a8, a9, a10, a11, a12, a13, a14, a15, a16, a17, a18) (-1) y :=
  br_t (by decide) (H hP)
theorem rc_idle6 {post : Int32 → St2 → Prop} {f0_rules f0_size f0_line f0_coming f0_going f0_result f0_wanted f0_found f0_later : Int32} {a1 a2 a3 a4 a5 a6 a7 a8 a9 a10 a11 a12 a13 a15 a17 a18 : Nat → Int32} {a14 a16 : Nat → Int64} {kd fr it lf rt : Nat} {w : List Nat} (hP : rc_P 1 kd fr it lf rt w f0_rules f0_size a1 a2 a3 a4 a5 a6)
    (H : ∀ {f0_rules' f0_size' f0_line' f0_coming' f0_going' f0_result' f0_wanted' f0_found' f0_later' : Int32} {a1' a2' a3' a4' a5' a6' a7' a8' a9' a10' a11' a12' a13' a15' a17' a18' : Nat → Int32} {a14' a16' : Nat → Int64}, rc_P 1 kd fr it lf rt w f0_rules' f0_size' a1' a2' a3' a4' a5' a6' → post (-1) (f0_rules', f0_size', f0_line', f0_coming', f0_going', f0_result', f0_wanted', f0_found', f0_later', a1', a2', a3', a4', a5', a6', a7', a8', a9', a10', a11', a12', a13', a14', a15', a16', a17', a18')) : wpX_idle post (f0_rules, f0_size, f0_line, f0_coming, f0_going, f0_result, f0_wanted, f0_found, f0_later, a1, a2, a3, a4, a5, a6, a7, a8, a9, a10, a11, a12, a13, a14, a15, a16, a17, a18) 0 6 :=
  br_f (by decide) (br_t (by rw [hP.1]; decide) (br_f (by decide) (br_f (by decide) (br_f (by decide) (H hP)))))
theorem rc_push {post : Int32 → St2 → Prop} {f0_rules f0_size f0_line f0_coming f0_going f0_result f0_wanted f0_found f0_later : Int32} {a1 a2 a3 a4 a5 a6 a7 a8 a9 a10 a11 a12 a13 a15 a17 a18 : Nat → Int32} {a14 a16 : Nat → Int64} {R kd fr it lf rt d : Nat} {w : List Nat} {x : Int32} (hx : x = nI d) (hd : d < 4) (hw : w.length < 12) (hP : rc_P R kd fr it lf rt w f0_rules f0_size a1 a2 a3 a4 a5 a6)
    (H : ∀ {f0_rules' f0_size' f0_line' f0_coming' f0_going' f0_result' f0_wanted' f0_found' f0_later' : Int32} {a1' a2' a3' a4' a5' a6' a7' a8' a9' a10' a11' a12' a13' a15' a17' a18' : Nat → Int32} {a14' a16' : Nat → Int64}, rc_P R kd fr it lf rt (w ++ [d]) f0_rules' f0_size' a1' a2' a3' a4' a5' a6' → post (nI (w.length + 1)) (f0_rules', f0_size', f0_line', f0_coming', f0_going', f0_result', f0_wanted', f0_found', f0_later', a1', a2', a3', a4', a5', a6', a7', a8', a9', a10', a11', a12', a13', a14', a15', a16', a17', a18')) : wpX_push post (f0_rules, f0_size, f0_line, f0_coming, f0_going, f0_result, f0_wanted, f0_found, f0_later, a1, a2, a3, a4, a5, a6, a7, a8, a9, a10, a11, a12, a13, a14, a15, a16, a17, a18) x := by
  obtain ⟨p1, p2, p3, p4, p5, p6⟩ := hP
  subst hx p3
  have D : rc_dig [d] := fun z hz => by
    have : z = d := by simpa using hz
    omega
  refine br_f (nI_pos (by omega)) (br_t (nI_le (a := d) (b := 3) (by omega) (by decide)) (br_t rfl (pk_eq w.length 12 (fun z => absurd z (by omega)) (fun _ => ⟨pk_in w.length 12 hw, nm_e (nm_r (nI_1 _) (H ⟨p1, p2, ?_, rc_ar_snoc p4 (nI_clamp (by omega)) (rc_b8 d (by omega)), rc_dig_app p5 D, p6⟩))⟩))))
  rw [List.length_append]
  rfl
theorem rc_push4 {post : Int32 → St2 → Prop} {f0_rules f0_size f0_line f0_coming f0_going f0_result f0_wanted f0_found f0_later : Int32} {a1 a2 a3 a4 a5 a6 a7 a8 a9 a10 a11 a12 a13 a15 a17 a18 : Nat → Int32} {a14 a16 : Nat → Int64} {R kd fr it lf rt : Nat} {w : List Nat} (hP : rc_P R kd fr it lf rt w f0_rules f0_size a1 a2 a3 a4 a5 a6)
    (H : ∀ {f0_rules' f0_size' f0_line' f0_coming' f0_going' f0_result' f0_wanted' f0_found' f0_later' : Int32} {a1' a2' a3' a4' a5' a6' a7' a8' a9' a10' a11' a12' a13' a15' a17' a18' : Nat → Int32} {a14' a16' : Nat → Int64}, rc_P R kd fr it lf rt w f0_rules' f0_size' a1' a2' a3' a4' a5' a6' → post (-1) (f0_rules', f0_size', f0_line', f0_coming', f0_going', f0_result', f0_wanted', f0_found', f0_later', a1', a2', a3', a4', a5', a6', a7', a8', a9', a10', a11', a12', a13', a14', a15', a16', a17', a18')) : wpX_push post (f0_rules, f0_size, f0_line, f0_coming, f0_going, f0_result, f0_wanted, f0_found, f0_later, a1, a2, a3, a4, a5, a6, a7, a8, a9, a10, a11, a12, a13, a14, a15, a16, a17, a18) 4 :=
  br_f (by decide) (br_f (by decide) (br_f (by decide) (H hP)))
theorem rc_pushM {post : Int32 → St2 → Prop} {f0_rules f0_size f0_line f0_coming f0_going f0_result f0_wanted f0_found f0_later : Int32} {a1 a2 a3 a4 a5 a6 a7 a8 a9 a10 a11 a12 a13 a15 a17 a18 : Nat → Int32} {a14 a16 : Nat → Int64} {R kd fr it lf rt : Nat} {w : List Nat} (hP : rc_P R kd fr it lf rt w f0_rules f0_size a1 a2 a3 a4 a5 a6)
    (H : ∀ {f0_rules' f0_size' f0_line' f0_coming' f0_going' f0_result' f0_wanted' f0_found' f0_later' : Int32} {a1' a2' a3' a4' a5' a6' a7' a8' a9' a10' a11' a12' a13' a15' a17' a18' : Nat → Int32} {a14' a16' : Nat → Int64}, rc_P R kd fr it lf rt w f0_rules' f0_size' a1' a2' a3' a4' a5' a6' → post (-1) (f0_rules', f0_size', f0_line', f0_coming', f0_going', f0_result', f0_wanted', f0_found', f0_later', a1', a2', a3', a4', a5', a6', a7', a8', a9', a10', a11', a12', a13', a14', a15', a16', a17', a18')) : wpX_push post (f0_rules, f0_size, f0_line, f0_coming, f0_going, f0_result, f0_wanted, f0_found, f0_later, a1, a2, a3, a4, a5, a6, a7, a8, a9, a10, a11, a12, a13, a14, a15, a16, a17, a18) (-1) :=
  br_t (by decide) (br_f (by decide) (H hP))
theorem rc_images6 {post : Int32 → St2 → Prop} {f0_rules f0_size f0_line f0_coming f0_going f0_result f0_wanted f0_found f0_later : Int32} {a1 a2 a3 a4 a5 a6 a7 a8 a9 a10 a11 a12 a13 a15 a17 a18 : Nat → Int32} {a14 a16 : Nat → Int64} {R kd fr it lf rt : Nat} {w : List Nat} (hP : rc_P R kd fr it lf rt w f0_rules f0_size a1 a2 a3 a4 a5 a6)
    (H : ∀ {f0_rules' f0_size' f0_line' f0_coming' f0_going' f0_result' f0_wanted' f0_found' f0_later' : Int32} {a1' a2' a3' a4' a5' a6' a7' a8' a9' a10' a11' a12' a13' a15' a17' a18' : Nat → Int32} {a14' a16' : Nat → Int64}, rc_P R kd fr it lf rt w f0_rules' f0_size' a1' a2' a3' a4' a5' a6' → post (-1) (f0_rules', f0_size', f0_line', f0_coming', f0_going', f0_result', f0_wanted', f0_found', f0_later', a1', a2', a3', a4', a5', a6', a7', a8', a9', a10', a11', a12', a13', a14', a15', a16', a17', a18')) : wpX_images post (f0_rules, f0_size, f0_line, f0_coming, f0_going, f0_result, f0_wanted, f0_found, f0_later, a1, a2, a3, a4, a5, a6, a7, a8, a9, a10, a11, a12, a13, a14, a15, a16, a17, a18) 6 :=
  br_f (by decide) (br_f (by decide) (br_f (by decide) (H hP)))
theorem rc_stillM {post : Int32 → St2 → Prop} {f0_rules f0_size f0_line f0_coming f0_going f0_result f0_wanted f0_found f0_later : Int32} {a1 a2 a3 a4 a5 a6 a7 a8 a9 a10 a11 a12 a13 a15 a17 a18 : Nat → Int32} {a14 a16 : Nat → Int64} {R kd fr it lf rt : Nat} {w : List Nat} (hP : rc_P R kd fr it lf rt w f0_rules f0_size a1 a2 a3 a4 a5 a6)
    (H : ∀ {f0_rules' f0_size' f0_line' f0_coming' f0_going' f0_result' f0_wanted' f0_found' f0_later' : Int32} {a1' a2' a3' a4' a5' a6' a7' a8' a9' a10' a11' a12' a13' a15' a17' a18' : Nat → Int32} {a14' a16' : Nat → Int64}, rc_P R kd fr it lf rt w f0_rules' f0_size' a1' a2' a3' a4' a5' a6' → post (-1) (f0_rules', f0_size', f0_line', f0_coming', f0_going', f0_result', f0_wanted', f0_found', f0_later', a1', a2', a3', a4', a5', a6', a7', a8', a9', a10', a11', a12', a13', a14', a15', a16', a17', a18')) : wpX_still post (f0_rules, f0_size, f0_line, f0_coming, f0_going, f0_result, f0_wanted, f0_found, f0_later, a1, a2, a3, a4, a5, a6, a7, a8, a9, a10, a11, a12, a13, a14, a15, a16, a17, a18) (-1) :=
  br_t (by decide) (br_f (by decide) (H hP))
theorem rc_sources6 {post : Int32 → St2 → Prop} {f0_rules f0_size f0_line f0_coming f0_going f0_result f0_wanted f0_found f0_later : Int32} {a1 a2 a3 a4 a5 a6 a7 a8 a9 a10 a11 a12 a13 a15 a17 a18 : Nat → Int32} {a14 a16 : Nat → Int64} {R kd fr it lf rt : Nat} {w : List Nat} (hP : rc_P R kd fr it lf rt w f0_rules f0_size a1 a2 a3 a4 a5 a6)
    (H : ∀ {f0_rules' f0_size' f0_line' f0_coming' f0_going' f0_result' f0_wanted' f0_found' f0_later' : Int32} {a1' a2' a3' a4' a5' a6' a7' a8' a9' a10' a11' a12' a13' a15' a17' a18' : Nat → Int32} {a14' a16' : Nat → Int64}, rc_P R kd fr it lf rt w f0_rules' f0_size' a1' a2' a3' a4' a5' a6' → post (-1) (f0_rules', f0_size', f0_line', f0_coming', f0_going', f0_result', f0_wanted', f0_found', f0_later', a1', a2', a3', a4', a5', a6', a7', a8', a9', a10', a11', a12', a13', a14', a15', a16', a17', a18')) : wpX_sources post (f0_rules, f0_size, f0_line, f0_coming, f0_going, f0_result, f0_wanted, f0_found, f0_later, a1, a2, a3, a4, a5, a6, a7, a8, a9, a10, a11, a12, a13, a14, a15, a16, a17, a18) 6 :=
  br_f (by decide) (br_f (by decide) (br_f (by decide) (H hP)))
theorem rc_sourceM {post : Int32 → St2 → Prop} {f0_rules f0_size f0_line f0_coming f0_going f0_result f0_wanted f0_found f0_later : Int32} {a1 a2 a3 a4 a5 a6 a7 a8 a9 a10 a11 a12 a13 a15 a17 a18 : Nat → Int32} {a14 a16 : Nat → Int64} {R kd fr it lf rt : Nat} {w : List Nat} {y : Int32} (hP : rc_P R kd fr it lf rt w f0_rules f0_size a1 a2 a3 a4 a5 a6)
    (H : ∀ {f0_rules' f0_size' f0_line' f0_coming' f0_going' f0_result' f0_wanted' f0_found' f0_later' : Int32} {a1' a2' a3' a4' a5' a6' a7' a8' a9' a10' a11' a12' a13' a15' a17' a18' : Nat → Int32} {a14' a16' : Nat → Int64}, rc_P R kd fr it lf rt w f0_rules' f0_size' a1' a2' a3' a4' a5' a6' → post (-1) (f0_rules', f0_size', f0_line', f0_coming', f0_going', f0_result', f0_wanted', f0_found', f0_later', a1', a2', a3', a4', a5', a6', a7', a8', a9', a10', a11', a12', a13', a14', a15', a16', a17', a18')) : wpX_source post (f0_rules, f0_size, f0_line, f0_coming, f0_going, f0_result, f0_wanted, f0_found, f0_later, a1, a2, a3, a4, a5, a6, a7, a8, a9, a10, a11, a12, a13, a14, a15, a16, a17, a18) (-1) y :=
  br_t (by decide) (br_f (by decide) (H hP))
end
section
/-- the four arguments make a good rule -/
def rc_G (kd fr it sd : Nat) (x0 x1 x2 x3 : Int32) : Prop :=
  x0 = nI kd ∧ kd < 3 ∧ (kd ≠ 2 → x1 = nI fr) ∧ (kd = 2 → fr = 0) ∧ (kd ≠ 1 → x2 = nI it) ∧ (kd = 1 → it = 0) ∧ fr < 4 ∧ it < 4 ∧ x3 = nI sd ∧ sd < 1024
theorem rc_below {x : Int32} {n : Nat} (h : ¬ nI (n + 1) ≤ x) (hn : n + 1 < 2 ^ 31) : x ≤ nI n := by
  rw [Int32.le_iff_toInt_le, nI_toInt hn] at h
  rw [Int32.le_iff_toInt_le, nI_toInt (by omega)]
  omega
theorem rc_above {x : Int32} {n : Nat} (h : x ≤ nI n) (hn : n + 1 < 2 ^ 31) : ¬ nI (n + 1) ≤ x := by
  rw [Int32.le_iff_toInt_le, nI_toInt (by omega)] at h
  rw [Int32.le_iff_toInt_le, nI_toInt hn]
  omega
theorem rc_le_of {x : Int32} {n : Nat} (h : ¬ nI n < x) (hn : n < 2 ^ 31) : x ≤ nI n := by
  rw [Int32.lt_iff_toInt_lt, nI_toInt hn] at h
  rw [Int32.le_iff_toInt_le, nI_toInt hn]
  omega
theorem rc_mkG {x0 x1 x2 x3 : Int32} (h0 : ¬ x0 < 0) (h0' : x0 ≤ 2) (h1 : x0 = 2 ∨ (¬ x1 < 0 ∧ x1 ≤ 3)) (h2 : x0 = 1 ∨ (¬ x2 < 0 ∧ x2 ≤ 3)) (h3 : ¬ x3 < 0) (h3' : x3 ≤ 1023) : ∃ kd fr it sd, rc_G kd fr it sd x0 x1 x2 x3 := by
  obtain ⟨kd, k1, k2⟩ := nI_of2 (M := 2) (n := 2) rfl h0 h0'
  obtain ⟨sd, s1, s2⟩ := nI_of2 (M := 1023) (n := 1023) rfl h3 h3'
  have F : ∃ fr, fr < 4 ∧ (kd ≠ 2 → x1 = nI fr) ∧ (kd = 2 → fr = 0) := by
    by_cases e : kd = 2
    · exact ⟨0, by decide, fun z => absurd e z, fun _ => rfl⟩
    · have e' : ¬ x0 = 2 := by
        rw [k2]
        exact fun z => e ((nI_eq (by omega) (by decide)).mp z)
      rcases h1 with z | ⟨z1, z2⟩
      · exact absurd z e'
      · obtain ⟨fr, f1, f2⟩ := nI_of2 (M := 3) (n := 3) rfl z1 z2
        exact ⟨fr, by omega, fun _ => f2, fun z => absurd z e⟩
  have I : ∃ it, it < 4 ∧ (kd ≠ 1 → x2 = nI it) ∧ (kd = 1 → it = 0) := by
    by_cases e : kd = 1
    · exact ⟨0, by decide, fun z => absurd e z, fun _ => rfl⟩
    · have e' : ¬ x0 = 1 := by
        rw [k2]
        exact fun z => e ((nI_eq (by omega) (by decide)).mp z)
      rcases h2 with z | ⟨z1, z2⟩
      · exact absurd z e'
      · obtain ⟨it, f1, f2⟩ := nI_of2 (M := 3) (n := 3) rfl z1 z2
        exact ⟨it, by omega, fun _ => f2, fun z => absurd z e⟩
  obtain ⟨fr, f1, f2, f3⟩ := F
  obtain ⟨it, i1, i2, i3⟩ := I
  exact ⟨kd, fr, it, sd, k2, by omega, f2, f3, i2, i3, f1, i1, s2, by omega⟩
/-! a bad rule -/
theorem rc_59B {post : Int32 → St2 → Prop} {f0_rules f0_size f0_line f0_coming f0_going f0_result f0_wanted f0_found f0_later : Int32} {a1 a2 a3 a4 a5 a6 a7 a8 a9 a10 a11 a12 a13 a15 a17 a18 : Nat → Int32} {a14 a16 : Nat → Int64} {x1 x2 x3 x4 x5 x6 : Int32} (hn : ¬ x4 < 0 → x4 ≤ 1023 → False) (H : post (-1) (f0_rules, f0_size, f0_line, f0_coming, f0_going, f0_result, f0_wanted, f0_found, f0_later, a1, a2, a3, a4, a5, a6, a7, a8, a9, a10, a11, a12, a13, a14, a15, a16, a17, a18)) : wX_rule_59 post x1 x2 x3 x4 x5 x6 f0_rules f0_size f0_line f0_coming f0_going f0_result f0_wanted f0_found f0_later a1 a2 a3 a4 a5 a6 a7 a8 a9 a10 a11 a12 a13 a14 a15 a16 a17 a18 :=
  br_c (fun _ => H) (fun y0 => br_c (fun y1 => (hn y0 y1).elim) (fun _ => H))
theorem rc_46B {post : Int32 → St2 → Prop} {f0_rules f0_size f0_line f0_coming f0_going f0_result f0_wanted f0_found f0_later : Int32} {a1 a2 a3 a4 a5 a6 a7 a8 a9 a10 a11 a12 a13 a15 a17 a18 : Nat → Int32} {a14 a16 : Nat → Int64} {x1 x2 x3 x4 x5 x6 : Int32} (hn : (x6 = 0 ∨ (¬ x3 < 0 ∧ x3 ≤ 3)) → ¬ x4 < 0 → x4 ≤ 1023 → False) (H : post (-1) (f0_rules, f0_size, f0_line, f0_coming, f0_going, f0_result, f0_wanted, f0_found, f0_later, a1, a2, a3, a4, a5, a6, a7, a8, a9, a10, a11, a12, a13, a14, a15, a16, a17, a18)) : wX_rule_46 post x1 x2 x3 x4 x5 x6 f0_rules f0_size f0_line f0_coming f0_going f0_result f0_wanted f0_found f0_later a1 a2 a3 a4 a5 a6 a7 a8 a9 a10 a11 a12 a13 a14 a15 a16 a17 a18 :=
  br_c (fun z => rc_59B (hn (Or.inl z)) H) (fun _ => br_c (fun _ => br_f (by decide) H) (fun y0 => br_c (fun y1 => br_t rfl (rc_59B (hn (Or.inr ⟨y0, y1⟩)) H)) (fun _ => br_f (by decide) H)))
theorem rc_22B {post : Int32 → St2 → Prop} {f0_rules f0_size f0_line f0_coming f0_going f0_result f0_wanted f0_found f0_later : Int32} {a1 a2 a3 a4 a5 a6 a7 a8 a9 a10 a11 a12 a13 a15 a17 a18 : Nat → Int32} {a14 a16 : Nat → Int64} {x1 x2 x3 x4 x5 x6 : Int32} (hn : ¬ x1 < 0 → ¬ 2 < x1 → (x5 = 0 ∨ (¬ x2 < 0 ∧ x2 ≤ 3)) → (x6 = 0 ∨ (¬ x3 < 0 ∧ x3 ≤ 3)) → ¬ x4 < 0 → x4 ≤ 1023 → False) (H : post (-1) (f0_rules, f0_size, f0_line, f0_coming, f0_going, f0_result, f0_wanted, f0_found, f0_later, a1, a2, a3, a4, a5, a6, a7, a8, a9, a10, a11, a12, a13, a14, a15, a16, a17, a18)) : wX_rule_22 post x1 x2 x3 x4 x5 x6 f0_rules f0_size f0_line f0_coming f0_going f0_result f0_wanted f0_found f0_later a1 a2 a3 a4 a5 a6 a7 a8 a9 a10 a11 a12 a13 a14 a15 a16 a17 a18 :=
  br_c (fun _ => H) (fun z0 => br_c (fun _ => H) (fun z1 => br_c (fun z => rc_46B (hn z0 z1 (Or.inl z)) H) (fun _ => br_c (fun _ => br_f (by decide) H) (fun y0 => br_c (fun y1 => br_t rfl (rc_46B (hn z0 z1 (Or.inr ⟨y0, y1⟩)) H)) (fun _ => br_f (by decide) H)))))
theorem rc_ruleB {post : Int32 → St2 → Prop} {f0_rules f0_size f0_line f0_coming f0_going f0_result f0_wanted f0_found f0_later : Int32} {a1 a2 a3 a4 a5 a6 a7 a8 a9 a10 a11 a12 a13 a15 a17 a18 : Nat → Int32} {a14 a16 : Nat → Int64} {R kd fr it lf rt : Nat} {w : List Nat} {x0 x1 x2 x3 : Int32} (hn : ∀ kd fr it sd, ¬ rc_G kd fr it sd x0 x1 x2 x3) (hP : rc_P R kd fr it lf rt w f0_rules f0_size a1 a2 a3 a4 a5 a6)
    (H : ∀ {f0_rules' f0_size' f0_line' f0_coming' f0_going' f0_result' f0_wanted' f0_found' f0_later' : Int32} {a1' a2' a3' a4' a5' a6' a7' a8' a9' a10' a11' a12' a13' a15' a17' a18' : Nat → Int32} {a14' a16' : Nat → Int64}, rc_P R kd fr it lf rt w f0_rules' f0_size' a1' a2' a3' a4' a5' a6' → post (-1) (f0_rules', f0_size', f0_line', f0_coming', f0_going', f0_result', f0_wanted', f0_found', f0_later', a1', a2', a3', a4', a5', a6', a7', a8', a9', a10', a11', a12', a13', a14', a15', a16', a17', a18')) : wpX_rule post (f0_rules, f0_size, f0_line, f0_coming, f0_going, f0_result, f0_wanted, f0_found, f0_later, a1, a2, a3, a4, a5, a6, a7, a8, a9, a10, a11, a12, a13, a14, a15, a16, a17, a18) x0 x1 x2 x3 := by
  have N : ¬ x0 < 0 → ¬ 2 < x0 → (x0 = 2 ∨ (¬ x1 < 0 ∧ x1 ≤ 3)) → (x0 = 1 ∨ (¬ x2 < 0 ∧ x2 ≤ 3)) → ¬ x3 < 0 → x3 ≤ 1023 → False := by
    intro h0 h0' h1 h2 h3 h3'
    obtain ⟨kd, fr, it, sd, g⟩ := rc_mkG h0 (rc_le_of (n := 2) h0' (by decide)) h1 h2 h3 h3'
    exact hn kd fr it sd g
  have Hp : post (-1) (f0_rules, f0_size, f0_line, f0_coming, f0_going, f0_result, f0_wanted, f0_found, f0_later, a1, a2, a3, a4, a5, a6, a7, a8, a9, a10, a11, a12, a13, a14, a15, a16, a17, a18) := H hP
  have one : ¬ (1 : Int32) = 0 := by decide
  exact br_c
    (fun e2 => br_c (fun e1 => rc_22B (fun a b c d e f => N a b (Or.inl e2) (Or.inl e1) e f) Hp) (fun e1 => rc_22B (fun a b c d e f => N a b (Or.inl e2) (d.elim (fun z => absurd z one) Or.inr) e f) Hp))
    (fun e2 => br_c (fun e1 => rc_22B (fun a b c d e f => N a b (c.elim (fun z => absurd z one) Or.inr) (Or.inl e1) e f) Hp) (fun e1 => rc_22B (fun a b c d e f => N a b (c.elim (fun z => absurd z one) Or.inr) (d.elim (fun z => absurd z one) Or.inr) e f) Hp))
/-! a good rule -/
theorem rc_r134 {post : Int32 → St2 → Prop} {f0_rules f0_size f0_line f0_coming f0_going f0_result f0_wanted f0_found f0_later : Int32} {a1 a2 a3 a4 a5 a6 a7 a8 a9 a10 a11 a12 a13 a15 a17 a18 : Nat → Int32} {a14 a16 : Nat → Int64} {kd fr it sd : Nat} {w : List Nat} {x4 z0 : Int32} (hz : z0 = nI it) (h4 : x4 = nI sd) (k1 : a1 0 = nI kd) (k2 : a2 0 = nI fr) (hk : kd < 3) (hf : fr < 4) (hi : it < 4) (hs : sd < 1024) (p1 : f0_rules = nI 0) (p3 : f0_size = nI w.length) (p4 : rc_ar a6 w) (p5 : rc_dig w)
    (H : ∀ {f0_rules' f0_size' f0_line' f0_coming' f0_going' f0_result' f0_wanted' f0_found' f0_later' : Int32} {a1' a2' a3' a4' a5' a6' a7' a8' a9' a10' a11' a12' a13' a15' a17' a18' : Nat → Int32} {a14' a16' : Nat → Int64}, rc_P 1 kd fr it (sd % 32) (sd / 32) w f0_rules' f0_size' a1' a2' a3' a4' a5' a6' → post (nI 1) (f0_rules', f0_size', f0_line', f0_coming', f0_going', f0_result', f0_wanted', f0_found', f0_later', a1', a2', a3', a4', a5', a6', a7', a8', a9', a10', a11', a12', a13', a14', a15', a16', a17', a18')) : wX_rule_134 post x4 z0 f0_rules f0_rules f0_size f0_line f0_coming f0_going f0_result f0_wanted f0_found f0_later a1 a2 a3 a4 a5 a6 a7 a8 a9 a10 a11 a12 a13 a14 a15 a16 a17 a18 := by
  subst hz h4 p1
  exact ⟨pk_in 0 5 (by decide), nm_e ⟨pk_in 0 5 (by decide), nm_e ⟨pk_in 0 5 (by decide), nm_e (nm_r (nI_1 0) (H ⟨rfl, by decide, p3, p4, p5, fun _ => ⟨k1, k2, rc_u0 (rc_b8 it (by omega)), rc_u0 (rc_s1 sd hs).1, rc_u0 (rc_s1 sd hs).2, hk, hf, hi, by omega, by omega⟩⟩))⟩⟩⟩
theorem rc_r114 {post : Int32 → St2 → Prop} {f0_rules f0_size f0_line f0_coming f0_going f0_result f0_wanted f0_found f0_later : Int32} {a1 a2 a3 a4 a5 a6 a7 a8 a9 a10 a11 a12 a13 a15 a17 a18 : Nat → Int32} {a14 a16 : Nat → Int64} {kd fr it sd : Nat} {w : List Nat} {x3 x4 x6 z0 : Int32} (hz : z0 = nI fr) (h6 : (x6 = 0 ∧ it = 0) ∨ (x6 = 1 ∧ x3 = nI it)) (h4 : x4 = nI sd) (k1 : a1 0 = nI kd) (hk : kd < 3) (hf : fr < 4) (hi : it < 4) (hs : sd < 1024) (p1 : f0_rules = nI 0) (p3 : f0_size = nI w.length) (p4 : rc_ar a6 w) (p5 : rc_dig w)
    (H : ∀ {f0_rules' f0_size' f0_line' f0_coming' f0_going' f0_result' f0_wanted' f0_found' f0_later' : Int32} {a1' a2' a3' a4' a5' a6' a7' a8' a9' a10' a11' a12' a13' a15' a17' a18' : Nat → Int32} {a14' a16' : Nat → Int64}, rc_P 1 kd fr it (sd % 32) (sd / 32) w f0_rules' f0_size' a1' a2' a3' a4' a5' a6' → post (nI 1) (f0_rules', f0_size', f0_line', f0_coming', f0_going', f0_result', f0_wanted', f0_found', f0_later', a1', a2', a3', a4', a5', a6', a7', a8', a9', a10', a11', a12', a13', a14', a15', a16', a17', a18')) : wX_rule_114 post x3 x4 x6 z0 f0_rules f0_rules f0_size f0_line f0_coming f0_going f0_result f0_wanted f0_found f0_later a1 a2 a3 a4 a5 a6 a7 a8 a9 a10 a11 a12 a13 a14 a15 a16 a17 a18 := by
  subst hz p1
  have k2 : upd a2 (nI 0).toNatClampNeg (nI fr).toInt8.toInt32 0 = nI fr := rc_u0 (rc_b8 fr (by omega))
  refine ⟨pk_in 0 5 (by decide), nm_e ?_⟩
  rcases h6 with ⟨e6, ei⟩ | ⟨e6, ei⟩
  · exact br_t e6 (rc_r134 (by rw [ei]; rfl) h4 k1 k2 hk hf hi hs rfl p3 p4 p5 H)
  · exact br_f (by rw [e6]; decide) (rc_r134 ei h4 k1 k2 hk hf hi hs rfl p3 p4 p5 H)
theorem rc_r59 {post : Int32 → St2 → Prop} {f0_rules f0_size f0_line f0_coming f0_going f0_result f0_wanted f0_found f0_later : Int32} {a1 a2 a3 a4 a5 a6 a7 a8 a9 a10 a11 a12 a13 a15 a17 a18 : Nat → Int32} {a14 a16 : Nat → Int64} {kd fr it sd : Nat} {w : List Nat} {x1 x2 x3 x4 x5 x6 : Int32} (h1 : x1 = nI kd) (h5 : (x5 = 0 ∧ fr = 0) ∨ (x5 = 1 ∧ x2 = nI fr)) (h6 : (x6 = 0 ∧ it = 0) ∨ (x6 = 1 ∧ x3 = nI it)) (h4 : x4 = nI sd) (hk : kd < 3) (hf : fr < 4) (hi : it < 4) (hs : sd < 1024) (p1 : f0_rules = nI 0) (p3 : f0_size = nI w.length) (p4 : rc_ar a6 w) (p5 : rc_dig w)
    (H : ∀ {f0_rules' f0_size' f0_line' f0_coming' f0_going' f0_result' f0_wanted' f0_found' f0_later' : Int32} {a1' a2' a3' a4' a5' a6' a7' a8' a9' a10' a11' a12' a13' a15' a17' a18' : Nat → Int32} {a14' a16' : Nat → Int64}, rc_P 1 kd fr it (sd % 32) (sd / 32) w f0_rules' f0_size' a1' a2' a3' a4' a5' a6' → post (nI 1) (f0_rules', f0_size', f0_line', f0_coming', f0_going', f0_result', f0_wanted', f0_found', f0_later', a1', a2', a3', a4', a5', a6', a7', a8', a9', a10', a11', a12', a13', a14', a15', a16', a17', a18')) : wX_rule_59 post x1 x2 x3 x4 x5 x6 f0_rules f0_size f0_line f0_coming f0_going f0_result f0_wanted f0_found f0_later a1 a2 a3 a4 a5 a6 a7 a8 a9 a10 a11 a12 a13 a14 a15 a16 a17 a18 := by
  subst h1 p1
  have k1 : upd a1 (nI 0).toNatClampNeg (nI kd).toInt8.toInt32 0 = nI kd := rc_u0 (rc_b8 kd (by omega))
  refine br_f (by rw [h4]; exact nI_pos (by omega)) (br_t (by rw [h4]; exact nI_le (b := 1023) (by omega) (by decide)) (br_f (by decide) ⟨pk_in 0 5 (by decide), nm_e ?_⟩))
  rcases h5 with ⟨e5, ef⟩ | ⟨e5, ef⟩
  · exact br_t e5 (rc_r114 (by rw [ef]; rfl) h6 h4 k1 hk hf hi hs rfl p3 p4 p5 H)
  · exact br_f (by rw [e5]; decide) (rc_r114 ef h6 h4 k1 hk hf hi hs rfl p3 p4 p5 H)
theorem rc_badL {post : Int32 → Prop} {f0_rules f0_size f0_line f0_coming f0_going f0_result f0_wanted f0_found f0_later : Int32} {a1 a2 a3 a4 a5 a6 a7 a8 a9 a10 a11 a12 a13 a15 a17 a18 : Nat → Int32} {a14 a16 : Nat → Int64} {x : Int32} {d : Nat} (hx : x = nI d) (hd : d < 4) (H : post 0) : wpX_badLetter post (f0_rules, f0_size, f0_line, f0_coming, f0_going, f0_result, f0_wanted, f0_found, f0_later, a1, a2, a3, a4, a5, a6, a7, a8, a9, a10, a11, a12, a13, a14, a15, a16, a17, a18) x :=
  br_f (by rw [hx]; exact nI_pos (by omega)) (br_t (by rw [hx]; exact nI_le (b := 3) (by omega) (by decide)) H)
theorem rc_r46 {post : Int32 → St2 → Prop} {f0_rules f0_size f0_line f0_coming f0_going f0_result f0_wanted f0_found f0_later : Int32} {a1 a2 a3 a4 a5 a6 a7 a8 a9 a10 a11 a12 a13 a15 a17 a18 : Nat → Int32} {a14 a16 : Nat → Int64} {kd fr it sd : Nat} {w : List Nat} {x1 x2 x3 x4 x5 x6 : Int32} (h1 : x1 = nI kd) (h5 : (x5 = 0 ∧ fr = 0) ∨ (x5 = 1 ∧ x2 = nI fr)) (h6 : (x6 = 0 ∧ it = 0) ∨ (x6 = 1 ∧ x3 = nI it)) (h4 : x4 = nI sd) (hk : kd < 3) (hf : fr < 4) (hi : it < 4) (hs : sd < 1024) (p1 : f0_rules = nI 0) (p3 : f0_size = nI w.length) (p4 : rc_ar a6 w) (p5 : rc_dig w)
    (H : ∀ {f0_rules' f0_size' f0_line' f0_coming' f0_going' f0_result' f0_wanted' f0_found' f0_later' : Int32} {a1' a2' a3' a4' a5' a6' a7' a8' a9' a10' a11' a12' a13' a15' a17' a18' : Nat → Int32} {a14' a16' : Nat → Int64}, rc_P 1 kd fr it (sd % 32) (sd / 32) w f0_rules' f0_size' a1' a2' a3' a4' a5' a6' → post (nI 1) (f0_rules', f0_size', f0_line', f0_coming', f0_going', f0_result', f0_wanted', f0_found', f0_later', a1', a2', a3', a4', a5', a6', a7', a8', a9', a10', a11', a12', a13', a14', a15', a16', a17', a18')) : wX_rule_46 post x1 x2 x3 x4 x5 x6 f0_rules f0_size f0_line f0_coming f0_going f0_result f0_wanted f0_found f0_later a1 a2 a3 a4 a5 a6 a7 a8 a9 a10 a11 a12 a13 a14 a15 a16 a17 a18 := by
  have T : wX_rule_59 post x1 x2 x3 x4 x5 x6 f0_rules f0_size f0_line f0_coming f0_going f0_result f0_wanted f0_found f0_later a1 a2 a3 a4 a5 a6 a7 a8 a9 a10 a11 a12 a13 a14 a15 a16 a17 a18 := rc_r59 h1 h5 h6 h4 hk hf hi hs p1 p3 p4 p5 H
  rcases h6 with ⟨e6, ei⟩ | ⟨e6, ei⟩
  · exact br_t e6 T
  · exact br_f (by rw [e6]; decide) (rc_badL ei hi (br_t rfl T))
theorem rc_r22 {post : Int32 → St2 → Prop} {f0_rules f0_size f0_line f0_coming f0_going f0_result f0_wanted f0_found f0_later : Int32} {a1 a2 a3 a4 a5 a6 a7 a8 a9 a10 a11 a12 a13 a15 a17 a18 : Nat → Int32} {a14 a16 : Nat → Int64} {kd fr it sd : Nat} {w : List Nat} {x1 x2 x3 x4 x5 x6 : Int32} (h1 : x1 = nI kd) (h5 : (x5 = 0 ∧ fr = 0) ∨ (x5 = 1 ∧ x2 = nI fr)) (h6 : (x6 = 0 ∧ it = 0) ∨ (x6 = 1 ∧ x3 = nI it)) (h4 : x4 = nI sd) (hk : kd < 3) (hf : fr < 4) (hi : it < 4) (hs : sd < 1024) (p1 : f0_rules = nI 0) (p3 : f0_size = nI w.length) (p4 : rc_ar a6 w) (p5 : rc_dig w)
    (H : ∀ {f0_rules' f0_size' f0_line' f0_coming' f0_going' f0_result' f0_wanted' f0_found' f0_later' : Int32} {a1' a2' a3' a4' a5' a6' a7' a8' a9' a10' a11' a12' a13' a15' a17' a18' : Nat → Int32} {a14' a16' : Nat → Int64}, rc_P 1 kd fr it (sd % 32) (sd / 32) w f0_rules' f0_size' a1' a2' a3' a4' a5' a6' → post (nI 1) (f0_rules', f0_size', f0_line', f0_coming', f0_going', f0_result', f0_wanted', f0_found', f0_later', a1', a2', a3', a4', a5', a6', a7', a8', a9', a10', a11', a12', a13', a14', a15', a16', a17', a18')) : wX_rule_22 post x1 x2 x3 x4 x5 x6 f0_rules f0_size f0_line f0_coming f0_going f0_result f0_wanted f0_found f0_later a1 a2 a3 a4 a5 a6 a7 a8 a9 a10 a11 a12 a13 a14 a15 a16 a17 a18 := by
  have T : wX_rule_46 post x1 x2 x3 x4 x5 x6 f0_rules f0_size f0_line f0_coming f0_going f0_result f0_wanted f0_found f0_later a1 a2 a3 a4 a5 a6 a7 a8 a9 a10 a11 a12 a13 a14 a15 a16 a17 a18 := rc_r46 h1 h5 h6 h4 hk hf hi hs p1 p3 p4 p5 H
  refine br_f (by rw [h1]; exact nI_pos (by omega)) (br_f (by rw [h1]; exact nI_nlt (a := 2) (by omega) (by decide)) ?_)
  rcases h5 with ⟨e5, ef⟩ | ⟨e5, ef⟩
  · exact br_t e5 T
  · exact br_f (by rw [e5]; decide) (rc_badL ef hf (br_t rfl T))
theorem rc_ruleG {post : Int32 → St2 → Prop} {f0_rules f0_size f0_line f0_coming f0_going f0_result f0_wanted f0_found f0_later : Int32} {a1 a2 a3 a4 a5 a6 a7 a8 a9 a10 a11 a12 a13 a15 a17 a18 : Nat → Int32} {a14 a16 : Nat → Int64} {kd' fr' it' lf' rt' kd fr it sd : Nat} {w : List Nat} {x0 x1 x2 x3 : Int32} (hg : rc_G kd fr it sd x0 x1 x2 x3) (hP : rc_P 0 kd' fr' it' lf' rt' w f0_rules f0_size a1 a2 a3 a4 a5 a6)
    (H : ∀ {f0_rules' f0_size' f0_line' f0_coming' f0_going' f0_result' f0_wanted' f0_found' f0_later' : Int32} {a1' a2' a3' a4' a5' a6' a7' a8' a9' a10' a11' a12' a13' a15' a17' a18' : Nat → Int32} {a14' a16' : Nat → Int64}, rc_P 1 kd fr it (sd % 32) (sd / 32) w f0_rules' f0_size' a1' a2' a3' a4' a5' a6' → post (nI 1) (f0_rules', f0_size', f0_line', f0_coming', f0_going', f0_result', f0_wanted', f0_found', f0_later', a1', a2', a3', a4', a5', a6', a7', a8', a9', a10', a11', a12', a13', a14', a15', a16', a17', a18')) : wpX_rule post (f0_rules, f0_size, f0_line, f0_coming, f0_going, f0_result, f0_wanted, f0_found, f0_later, a1, a2, a3, a4, a5, a6, a7, a8, a9, a10, a11, a12, a13, a14, a15, a16, a17, a18) x0 x1 x2 x3 := by
  obtain ⟨p1, p2, p3, p4, p5, p6⟩ := hP
  obtain ⟨g1, g2, g3, g4, g5, g6, g7, g8, g9, g10⟩ := hg
  exact pk_eq kd 2
    (fun e2 => pk_eq kd 1 (fun e1 => absurd e1 (by omega)) (fun e1 => rc_r22 g1 (Or.inl ⟨rfl, g4 e2⟩) (Or.inr ⟨rfl, g5 e1⟩) g9 g2 g7 g8 g10 p1 p3 p4 p5 H) g1)
    (fun e2 => pk_eq kd 1 (fun e1 => rc_r22 g1 (Or.inr ⟨rfl, g3 e2⟩) (Or.inl ⟨rfl, g6 e1⟩) g9 g2 g7 g8 g10 p1 p3 p4 p5 H) (fun e1 => rc_r22 g1 (Or.inr ⟨rfl, g3 e2⟩) (Or.inr ⟨rfl, g5 e1⟩) g9 g2 g7 g8 g10 p1 p3 p4 p5 H) g1) g1
end
section
theorem rd_handOn {post : St2 → Prop} {f0_rules f0_size f0_line f0_coming f0_going f0_result f0_wanted f0_found f0_later : Int32} {a1 a2 a3 a4 a5 a6 a7 a8 a9 a10 a11 a12 a13 a15 a17 a18 : Nat → Int32} {a14 a16 : Nat → Int64} {e : List Nat} {m d : Nat} {x : Int32} (hx : x = nI d) (hH : rc_H e m f0_going a10 a12) (hm : m + e.length < 12) (hd : d < 128)
    (H : ∀ (g : Int32) (b10 b12 : Nat → Int32), rc_H (e ++ [d]) m g b10 b12 → post (f0_rules, f0_size, f0_line, f0_coming, g, f0_result, f0_wanted, f0_found, f0_later, a1, a2, a3, a4, a5, a6, a7, a8, a9, b10, a11, b12, a13, a14, a15, a16, a17, a18)) : wpX_handOn_2 post (f0_rules, f0_size, f0_line, f0_coming, f0_going, f0_result, f0_wanted, f0_found, f0_later, a1, a2, a3, a4, a5, a6, a7, a8, a9, a10, a11, a12, a13, a14, a15, a16, a17, a18) 0 x := by
  obtain ⟨h1, h2, h3⟩ := hH
  subst hx
  refine ⟨pk_in 0 5 (by decide), br_f ?_ ⟨pk_in e.length 80 (by omega) h1, nm_e (nm_e ⟨pk_in 0 5 (by decide), pk_in 0 5 (by decide), nm_e (H _ _ _ ⟨?_, ?_, ?_⟩)⟩)⟩⟩
  · rw [rc_c0, h3]
    exact nI_ge hm (by decide)
  · rw [h1, nI_1, List.length_append]
    rfl
  · exact rc_ar_snoc h2 (by rw [h1, nI_clamp (by omega)]) (rc_b8 d hd)
  · refine rc_u0 ?_
    rw [rc_c0, h3, nI_1, rc_b8 _ (by omega), List.length_append]
    rfl
theorem rd_m61 {post : St2 → Prop} {f0_rules f0_size f0_line f0_coming f0_going f0_result f0_wanted f0_found f0_later : Int32} {a1 a2 a3 a4 a5 a6 a7 a8 a9 a10 a11 a12 a13 a15 a17 a18 : Nat → Int32} {a14 a16 : Nat → Int64} {e : List Nat} {m s : Nat} (hH : rc_H e m f0_going a10 a12) (hm : m + e.length < 12) (hs : s ≤ 4)
    (H : ∀ (g : Int32) (b8 b10 b12 : Nat → Int32), rc_H (e ++ (if s = 4 then [] else [s])) m g b10 b12 → b8 0 = nI s → post (f0_rules, f0_size, f0_line, f0_coming, g, f0_result, f0_wanted, f0_found, f0_later, a1, a2, a3, a4, a5, a6, a7, b8, a9, b10, a11, b12, a13, a14, a15, a16, a17, a18)) : wX_meet_2_61 post 0 (nI s) f0_rules f0_size f0_line f0_coming f0_going f0_result f0_wanted f0_found f0_later a1 a2 a3 a4 a5 a6 a7 a8 a9 a10 a11 a12 a13 a14 a15 a16 a17 a18 := by
  refine pk_eq s 4 (fun e4 => ⟨pk_in 0 5 (by decide), nm_e (H _ _ _ _ ?_ (rc_u0 (rc_b8 s (by omega))))⟩) (fun n4 => rd_handOn rfl hH hm (by omega) (fun g b10 b12 hH' => ⟨pk_in 0 5 (by decide), nm_e (H _ _ _ _ ?_ (rc_u0 (rc_b8 s (by omega))))⟩))
  · rw [if_pos e4, List.append_nil]
    exact hH
  · rw [if_neg n4]
    exact hH'
theorem rd_m190 {post : St2 → Prop} {f0_rules f0_size f0_line f0_coming f0_going f0_result f0_wanted f0_found f0_later : Int32} {a1 a2 a3 a4 a5 a6 a7 a8 a9 a10 a11 a12 a13 a15 a17 a18 : Nat → Int32} {a14 a16 : Nat → Int64} {s : Nat} (hs : s ≤ 4) (H : ∀ b9 : Nat → Int32, b9 0 = nI (if s = 4 then 5 else s) → post (f0_rules, f0_size, f0_line, f0_coming, f0_going, f0_result, f0_wanted, f0_found, f0_later, a1, a2, a3, a4, a5, a6, a7, a8, b9, a10, a11, a12, a13, a14, a15, a16, a17, a18)) : wX_meet_2_190 post 0 (nI s) f0_rules f0_size f0_line f0_coming f0_going f0_result f0_wanted f0_found f0_later a1 a2 a3 a4 a5 a6 a7 a8 a9 a10 a11 a12 a13 a14 a15 a16 a17 a18 :=
  pk_eq s 4 (fun e4 => ⟨pk_in 0 5 (by decide), nm_e (H _ (rc_u0 (by rw [if_pos e4]; rfl)))⟩) (fun n4 => ⟨pk_in 0 5 (by decide), nm_e (H _ (rc_u0 (by rw [if_neg n4, rc_b8 s (by omega)])))⟩)
theorem rd_m181 {post : St2 → Prop} {f0_rules f0_size f0_line f0_coming f0_going f0_result f0_wanted f0_found f0_later : Int32} {a1 a2 a3 a4 a5 a6 a7 a8 a9 a10 a11 a12 a13 a15 a17 a18 : Nat → Int32} {a14 a16 : Nat → Int64} {s h : Nat} (hs : s ≤ 4) (hh : h < 6) (H : ∀ b8 b9 : Nat → Int32, b8 0 = nI h → b9 0 = nI (if s = 4 then 5 else s) → post (f0_rules, f0_size, f0_line, f0_coming, f0_going, f0_result, f0_wanted, f0_found, f0_later, a1, a2, a3, a4, a5, a6, a7, b8, b9, a10, a11, a12, a13, a14, a15, a16, a17, a18)) : wX_meet_2_181 post 0 (nI s) (nI h) f0_rules f0_size f0_line f0_coming f0_going f0_result f0_wanted f0_found f0_later a1 a2 a3 a4 a5 a6 a7 a8 a9 a10 a11 a12 a13 a14 a15 a16 a17 a18 :=
  ⟨pk_in 0 5 (by decide), nm_e (rd_m190 hs (fun b9 h9 => H _ b9 (rc_u0 (rc_b8 h (by omega))) h9))⟩
theorem rd_m144a {post : St2 → Prop} {f0_rules f0_size f0_line f0_coming f0_going f0_result f0_wanted f0_found f0_later : Int32} {a1 a2 a3 a4 a5 a6 a7 a8 a9 a10 a11 a12 a13 a15 a17 a18 : Nat → Int32} {a14 a16 : Nat → Int64} {m s h : Nat} {x3 : Int32} (hH : rc_H [] m f0_going a10 a12) (hm : m + 2 ≤ 12) (hs : s ≤ 4) (hh : h < 6)
    (H : ∀ (g : Int32) (b8 b9 b10 b12 : Nat → Int32), rc_H [h] m g b10 b12 → b8 0 = nI h → b9 0 = nI (if s = 4 then 5 else s) → post (f0_rules, f0_size, f0_line, f0_coming, g, f0_result, f0_wanted, f0_found, f0_later, a1, a2, a3, a4, a5, a6, a7, b8, b9, b10, a11, b12, a13, a14, a15, a16, a17, a18)) : wX_meet_2_144 post 0 (nI s) x3 (nI h) 0 f0_rules f0_size f0_line f0_coming f0_going f0_result f0_wanted f0_found f0_later a1 a2 a3 a4 a5 a6 a7 a8 a9 a10 a11 a12 a13 a14 a15 a16 a17 a18 :=
  br_t rfl (rd_handOn rfl hH (Nat.lt_of_lt_of_le (by simp) hm) (by omega) (fun g b10 b12 hH' => rd_m181 hs hh (fun b8 b9 h8 h9 => H g b8 b9 b10 b12 hH' h8 h9)))
theorem rd_m144b {post : St2 → Prop} {f0_rules f0_size f0_line f0_coming f0_going f0_result f0_wanted f0_found f0_later : Int32} {a1 a2 a3 a4 a5 a6 a7 a8 a9 a10 a11 a12 a13 a15 a17 a18 : Nat → Int32} {a14 a16 : Nat → Int64} {m s h kd it : Nat} (h1 : a1 0 = nI kd) (hk : kd < 3) (h3 : a3 0 = nI it) (hit : it < 4) (hH : rc_H [] m f0_going a10 a12) (hm : m + 2 ≤ 12) (hs : s ≤ 4) (hh : h < 6)
    (H : ∀ (g : Int32) (b8 b9 b10 b12 : Nat → Int32), rc_H (if kd = 0 then [it] else []) m g b10 b12 → b8 0 = nI h → b9 0 = nI (if s = 4 then 5 else s) → post (f0_rules, f0_size, f0_line, f0_coming, g, f0_result, f0_wanted, f0_found, f0_later, a1, a2, a3, a4, a5, a6, a7, b8, b9, b10, a11, b12, a13, a14, a15, a16, a17, a18)) : wX_meet_2_144 post 0 (nI s) (nI 0) (nI h) 1 f0_rules f0_size f0_line f0_coming f0_going f0_result f0_wanted f0_found f0_later a1 a2 a3 a4 a5 a6 a7 a8 a9 a10 a11 a12 a13 a14 a15 a16 a17 a18 := by
  refine br_f (by decide) ⟨pk_in 0 5 (by decide), pk_eq kd 0 (fun k0 => ⟨pk_in 0 5 (by decide), rd_handOn h3 hH (Nat.lt_of_lt_of_le (by simp) hm) (by omega) (fun g b10 b12 hH' => rd_m181 hs hh (fun b8 b9 h8 h9 => H g b8 b9 b10 b12 ?_ h8 h9))⟩) (fun k0 => rd_m181 hs hh (fun b8 b9 h8 h9 => H _ b8 b9 _ _ ?_ h8 h9)) h1⟩
  · rw [if_pos k0]
    exact hH'
  · rw [if_neg k0]
    exact hH
theorem rd_meet {post : St2 → Prop} {f0_rules f0_size f0_line f0_coming f0_going f0_result f0_wanted f0_found f0_later : Int32} {a1 a2 a3 a4 a5 a6 a7 a8 a9 a10 a11 a12 a13 a15 a17 a18 : Nat → Int32} {a14 a16 : Nat → Int64} {kd fr it lf rt b h m s : Nat} {x : Int32} (hx : x = nI s) (hr : rc_rule kd fr it lf rt a1 a2 a3 a4 a5) (h7 : a7 0 = nI 0) (h8 : a8 0 = nI b) (h9 : a9 0 = nI h) (hH : rc_H [] m f0_going a10 a12) (hm : m + 2 ≤ 12) (hb : b ≤ 4) (hh : h < 4 ∨ h = 5) (hs : s ≤ 4)
    (H : ∀ (g : Int32) (b8 b9 b10 b12 : Nat → Int32), rc_H (rc_em 1 kd fr it lf rt b h s) m g b10 b12 → b8 0 = nI (rc_nb kd b h s) → b9 0 = nI (rc_nh kd h s) → post (f0_rules, f0_size, f0_line, f0_coming, g, f0_result, f0_wanted, f0_found, f0_later, a1, a2, a3, a4, a5, a6, a7, b8, b9, b10, a11, b12, a13, a14, a15, a16, a17, a18)) : wpX_meet_2 post (f0_rules, f0_size, f0_line, f0_coming, f0_going, f0_result, f0_wanted, f0_found, f0_later, a1, a2, a3, a4, a5, a6, a7, a8, a9, a10, a11, a12, a13, a14, a15, a16, a17, a18) 0 x := by
  obtain ⟨k1, k2, k3, k4, k5, c1, c2, c3, c4, c5⟩ := hr
  subst hx
  refine ⟨pk_in 0 5 (by decide), nm_r h7 ⟨pk_in 0 5 (by decide), ?_⟩⟩
  refine pk_eq kd 2 (fun e2 => ?_) (fun n2 => ?_) k1
  · have B8 : rc_nb kd b h s = s := by simp [rc_nb, e2]
    have B9 : rc_nh kd h s = h := by simp [rc_nh, e2]
    have tail : (¬ (rc_al lf b = true ∧ rc_al rt s = true)) → wX_meet_2_61 post 0 (nI s) f0_rules f0_size f0_line f0_coming f0_going f0_result f0_wanted f0_found f0_later a1 a2 a3 a4 a5 a6 a7 a8 a9 a10 a11 a12 a13 a14 a15 a16 a17 a18 := by
      intro hn
      have E : rc_em 1 kd fr it lf rt b h s = [] ++ (if s = 4 then [] else [s]) := by
        rw [rc_em, if_neg (show ¬ (1 : Nat) = 0 by decide), if_pos e2, if_neg hn]
      refine rd_m61 hH (Nat.lt_of_lt_of_le (by simp) hm) hs (fun g b8 b10 b12 g1 g2 => H g b8 a9 b10 b12 ?_ ?_ ?_)
      · rw [E]; exact g1
      · rw [B8]; exact g2
      · rw [B9]; exact h9
    refine ⟨pk_in 0 5 (by decide), pk_in 0 5 (by decide), rc_allows k4 h8 c4 hb (fun t1 => br_f (by decide) ⟨pk_in 0 5 (by decide), rc_allows k5 rfl c5 hs (fun t2 => br_f (by decide) ⟨pk_in 0 5 (by decide), ?_⟩) (fun t2 => br_t rfl (tail (fun z => t2 z.2)))⟩) (fun t1 => br_t rfl (tail (fun z => t1 z.1)))⟩
    have E : rc_em 1 kd fr it lf rt b h s = [it] ++ (if s = 4 then [] else [s]) := by
      rw [rc_em, if_neg (show ¬ (1 : Nat) = 0 by decide), if_pos e2, if_pos ⟨t1, t2⟩]
    refine rd_handOn k3 hH (Nat.lt_of_lt_of_le (by simp) hm) (by omega) (fun g b10 b12 hH' => rd_m61 (e := [it]) hH' (by simp; omega) hs (fun g' b8 b10' b12' g1 g2 => H g' b8 a9 b10' b12' ?_ ?_ ?_))
    · rw [E]; exact g1
    · rw [B8]; exact g2
    · rw [B9]; exact h9
  · refine ⟨pk_in 0 5 (by decide), nm_r h9 ?_⟩
    have B9 : rc_nh kd h s = if s = 4 then 5 else s := by simp [rc_nh, n2]
    refine pk_eq h 5 (fun e5 => ?_) (fun n5 => ?_)
    · have E : rc_em 1 kd fr it lf rt b h s = [] := by rw [rc_em, if_neg (show ¬ (1 : Nat) = 0 by decide), if_neg n2, if_pos e5]
      have B8 : rc_nb kd b h s = b := by simp [rc_nb, n2, e5]
      refine rd_m190 hs (fun b9 g9 => H _ _ b9 _ _ ?_ ?_ ?_)
      · rw [E]; exact hH
      · rw [B8]; exact h8
      · rw [B9]; exact g9
    · have B8 : rc_nb kd b h s = h := by simp [rc_nb, n2, n5]
      have tail : (¬ (h = fr ∧ rc_al lf b = true ∧ rc_al rt s = true)) → wX_meet_2_144 post 0 (nI s) (nI 0) (nI h) 0 f0_rules f0_size f0_line f0_coming f0_going f0_result f0_wanted f0_found f0_later a1 a2 a3 a4 a5 a6 a7 a8 a9 a10 a11 a12 a13 a14 a15 a16 a17 a18 := by
        intro hn
        have E : rc_em 1 kd fr it lf rt b h s = [h] := by rw [rc_em, if_neg (show ¬ (1 : Nat) = 0 by decide), if_neg n2, if_neg n5, if_neg hn]
        refine rd_m144a hH hm hs (by omega) (fun g b8 b9 b10 b12 g1 g2 g3 => H g b8 b9 b10 b12 ?_ ?_ ?_)
        · rw [E]; exact g1
        · rw [B8]; exact g2
        · rw [B9]; exact g3
      refine ⟨pk_in 0 5 (by decide), pk_eq h fr (fun ef => ⟨pk_in 0 5 (by decide), pk_in 0 5 (by decide), rc_allows k4 h8 c4 hb (fun t1 => br_f (by decide) ⟨pk_in 0 5 (by decide), rc_allows k5 rfl c5 hs (fun t2 => br_f (by decide) ?_) (fun t2 => br_t rfl (tail (fun z => t2 z.2.2)))⟩) (fun t1 => br_t rfl (tail (fun z => t1 z.2.1)))⟩) (fun nf => tail (fun z => nf z.1)) rfl k2⟩
      have E : rc_em 1 kd fr it lf rt b h s = if kd = 0 then [it] else [] := by rw [rc_em, if_neg (show ¬ (1 : Nat) = 0 by decide), if_neg n2, if_neg n5, if_pos ⟨ef, t1, t2⟩]
      refine rd_m144b k1 c1 k3 c3 hH hm hs (by omega) (fun g b8 b9 b10 b12 g1 g2 g3 => H g b8 b9 b10 b12 ?_ ?_ ?_)
      · rw [E]; exact g1
      · rw [B8]; exact g2
      · rw [B9]; exact g3
theorem rd_exch {post : St2 → Prop} {f0_rules f0_size f0_line f0_coming f0_going f0_result f0_wanted f0_found f0_later : Int32} {a1 a2 a3 a4 a5 a6 a7 a8 a9 a10 a11 a12 a13 a15 a17 a18 : Nat → Int32} {a14 a16 : Nat → Int64} {e : List Nat} (hg : f0_going = nI e.length) (h12 : rc_ar a12 e) (hd : rc_dig e) (he : e.length ≤ 80)
    (H : ∀ b11 : Nat → Int32, rc_ar b11 e → post (f0_rules, f0_size, f0_line, f0_going, f0_going, f0_result, f0_wanted, f0_found, f0_later, a1, a2, a3, a4, a5, a6, a7, a8, a9, a10, b11, a12, a13, a14, a15, a16, a17, a18)) : wpX_exchangeWays_2 post (f0_rules, f0_size, f0_line, f0_coming, f0_going, f0_result, f0_wanted, f0_found, f0_later, a1, a2, a3, a4, a5, a6, a7, a8, a9, a10, a11, a12, a13, a14, a15, a16, a17, a18) := by
  subst hg
  refine pk_loop (fun n i (s : Nat → Int32) => wX_exchangeWays_2_2 post f0_rules f0_size f0_line f0_coming (nI e.length) f0_result f0_wanted f0_found f0_later n (nI i) a1 a2 a3 a4 a5 a6 a7 a8 a9 a10 s a12 a13 a14 a15 a16 a17 a18) (fun i s => rc_ar s (e.take i)) e.length 0 a11 (by omega) ?_ ?_ ?_
  · exact rc_ar_nil
  · intro n s hI
    exact pk_le e.length e.length (fun _ => H s (by have t : rc_ar s (e.take e.length) := hI; rwa [List.take_length] at t)) (fun z => absurd z (by omega))
  · intro n i s hi hI hw
    refine pk_le e.length i (fun z => absurd z (by omega)) (fun _ => ⟨pk_in i 80 (by omega), pk_in i 80 (by omega), nm_e (nm_r (nI_1 i) (hw _ ?_))⟩)
    show rc_ar _ (e.take (i + 1))
    rw [rc_take hi]
    exact rc_ar_snoc hI (by rw [nI_clamp (by omega), List.length_take]; omega) (by rw [nI_clamp (by omega), h12 i hi, rc_nar (by have := rc_dig_at hd hi; omega)])
theorem rd_pass {post : St2 → Prop} {f0_rules f0_size f0_line f0_coming f0_going f0_result f0_wanted f0_found f0_later : Int32} {a1 a2 a3 a4 a5 a6 a7 a8 a9 a10 a11 a12 a13 a15 a17 a18 : Nat → Int32} {a14 a16 : Nat → Int64} {kd fr it lf rt b h m s : Nat} {z : Int32} (hr : rc_rule kd fr it lf rt a1 a2 a3 a4 a5) (h7 : a7 0 = nI 0) (h8 : a8 0 = nI b) (h9 : a9 0 = nI h) (h10 : a10 0 = nI m) (hm : m + 2 ≤ 12) (hb : b ≤ 4) (hh : h < 4 ∨ h = 5) (hs : s ≤ 4)
    (hc : (s = 4 ∧ f0_coming = 0 ∧ z = 1) ∨ (s < 4 ∧ f0_coming = 1 ∧ a11 0 = nI s ∧ z = 0))
    (H : ∀ (c g : Int32) (b8 b9 b10 b11 b12 : Nat → Int32), c = nI (rc_em 1 kd fr it lf rt b h s).length → rc_ar b11 (rc_em 1 kd fr it lf rt b h s) → b10 0 = nI (m + (rc_em 1 kd fr it lf rt b h s).length) → b8 0 = nI (rc_nb kd b h s) → b9 0 = nI (rc_nh kd h s) → post (f0_rules, f0_size, f0_line, c, g, f0_result, f0_wanted, f0_found, f0_later, a1, a2, a3, a4, a5, a6, a7, b8, b9, b10, b11, b12, a13, a14, a15, a16, a17, a18)) : wpX_passRule_2 post (f0_rules, f0_size, f0_line, f0_coming, f0_going, f0_result, f0_wanted, f0_found, f0_later, a1, a2, a3, a4, a5, a6, a7, a8, a9, a10, a11, a12, a13, a14, a15, a16, a17, a18) 0 z := by
  have hH : rc_H [] m 0 a10 a12 := ⟨rfl, rc_ar_nil, h10⟩
  have hl := rc_em_len (l := 1) (kd := kd) (fr := fr) (it := it) (lf := lf) (rt := rt) (b := b) (h := h) (s := s)
  have hit : it < 4 := hr.2.2.2.2.2.2.2.1
  have K : ∀ (g : Int32) (b8 b9 b10 b12 : Nat → Int32), rc_H (rc_em 1 kd fr it lf rt b h s) m g b10 b12 → b8 0 = nI (rc_nb kd b h s) → b9 0 = nI (rc_nh kd h s) → wX_passRule_2_42 post f0_rules f0_size f0_line f0_coming g f0_result f0_wanted f0_found f0_later a1 a2 a3 a4 a5 a6 a7 b8 b9 b10 a11 b12 a13 a14 a15 a16 a17 a18 :=
    fun g b8 b9 b10 b12 k1 k2 k3 => rd_exch k1.1 k1.2.1 (rc_em_dig hit hh hs) (by omega) (fun b11 h11 => H g g b8 b9 b10 b11 b12 k1.1 h11 k1.2.2 k2 k3)
  rcases hc with ⟨e4, ec, ez⟩ | ⟨n4, ec, e11, ez⟩
  · subst ec ez
    exact ⟨1, br_t (by decide) (br_f (by decide) (rd_meet (by rw [e4]; rfl) hr h7 h8 h9 hH hm hb hh hs K))⟩
  · subst ec ez
    exact ⟨2, br_f (by decide) ⟨pk_in 0 80 (by decide), rd_meet e11 hr h7 h8 h9 hH hm hb hh hs (fun g b8 b9 b10 b12 k1 k2 k3 => nm_e (br_t (by decide) (br_t rfl (K g b8 b9 b10 b12 k1 k2 k3))))⟩⟩
theorem rd_f56 {post : St2 → Prop} {f0_rules f0_size f0_line f0_coming f0_going f0_result f0_wanted f0_found f0_later : Int32} {a1 a2 a3 a4 a5 a6 a7 a8 a9 a10 a11 a12 a13 a15 a17 a18 : Nat → Int32} {a14 a16 : Nat → Int64} {o e : List Nat} (hc : f0_coming = nI e.length) (hr : f0_result = nI o.length) (h11 : rc_ar a11 e) (h13 : rc_ar a13 o) (hd : rc_dig e) (hl : o.length + e.length ≤ 12)
    (H : ∀ (wq : Int32) (b13 : Nat → Int32), rc_ar b13 (o ++ e) → post (f0_rules, f0_size, f0_line, f0_coming, f0_going, nI (o ++ e).length, wq, f0_found, f0_later, a1, a2, a3, a4, a5, a6, a7, a8, a9, a10, a11, a12, b13, a14, a15, a16, a17, a18)) :
    ∃ n, wX_feed_2_56 post f0_rules f0_size f0_line f0_coming f0_going f0_found f0_later n 0 f0_result f0_wanted a1 a2 a3 a4 a5 a6 a7 a8 a9 a10 a11 a12 a13 a14 a15 a16 a17 a18 := by
  subst hc hr
  refine pk_loop (fun n i (s : Int32 × (Nat → Int32)) => wX_feed_2_56 post f0_rules f0_size f0_line (nI e.length) f0_going f0_found f0_later n (nI i) (nI (o.length + i)) s.1 a1 a2 a3 a4 a5 a6 a7 a8 a9 a10 a11 a12 (s.2) a14 a15 a16 a17 a18) (fun i s => rc_ar s.2 (o ++ e.take i)) e.length 0 (f0_wanted, a13) (by omega) ?_ ?_ ?_
  · show rc_ar a13 (o ++ e.take 0)
    rw [List.take_zero, List.append_nil]
    exact h13
  · intro n s hI
    have t : rc_ar s.2 (o ++ e.take e.length) := hI
    rw [List.take_length] at t
    have t2 := H s.1 s.2 t
    rw [List.length_append] at t2
    exact pk_le e.length e.length (fun _ => t2) (fun z => absurd z (by omega))
  · intro n i s hi hI hw
    have hdi := rc_dig_at hd hi
    have F : rc_ar (upd s.2 (nI (o.length + i)).toNatClampNeg (vp_nar .byte (a11 (nI i).toNatClampNeg))) (o ++ e.take (i + 1)) := by
      rw [rc_take hi, ← List.append_assoc]
      exact rc_ar_snoc hI (by rw [nI_clamp (by omega), List.length_append, List.length_take]; omega) (by rw [nI_clamp (by omega), h11 i hi, rc_nar (by omega)])
    have G : ∀ z : Int32, wX_feed_2_56 post f0_rules f0_size f0_line (nI e.length) f0_going f0_found f0_later n (nI (i + 1)) (nI (o.length + i + 1)) z a1 a2 a3 a4 a5 a6 a7 a8 a9 a10 a11 a12 (upd s.2 (nI (o.length + i)).toNatClampNeg (vp_nar .byte (a11 (nI i).toNatClampNeg))) a14 a15 a16 a17 a18 := fun z => hw (z, _) F
    refine pk_le e.length i (fun z => absurd z (by omega)) (fun _ => pk_le 12 (o.length + i) (fun z => absurd z (by omega)) (fun _ => ⟨pk_in i 80 (by omega), pk_in (o.length + i) 12 (by omega), nm_e ?_⟩))
    have K0 : wX_feed_2_130 post (wX_feed_2_56 post f0_rules f0_size f0_line (nI e.length) f0_going f0_found f0_later n) (nI i) 0 f0_rules f0_size f0_line (nI e.length) f0_going (nI (o.length + i)) s.1 f0_found f0_later a1 a2 a3 a4 a5 a6 a7 a8 a9 a10 a11 a12 (upd s.2 (nI (o.length + i)).toNatClampNeg (vp_nar .byte (a11 (nI i).toNatClampNeg))) a14 a15 a16 a17 a18 :=
      ⟨rfl, rfl, nm_r (nI_1 _) (nm_r (nI_1 i) (G 0))⟩
    have K1 : wX_feed_2_130 post (wX_feed_2_56 post f0_rules f0_size f0_line (nI e.length) f0_going f0_found f0_later n) (nI i) 1 f0_rules f0_size f0_line (nI e.length) f0_going (nI (o.length + i)) s.1 f0_found f0_later a1 a2 a3 a4 a5 a6 a7 a8 a9 a10 a11 a12 (upd s.2 (nI (o.length + i)).toNatClampNeg (vp_nar .byte (a11 (nI i).toNatClampNeg))) a14 a15 a16 a17 a18 :=
      ⟨rfl, rfl, nm_r (nI_1 _) (nm_r (nI_1 i) (G 1))⟩
    exact br_c (fun _ => K0) (fun _ => br_c (fun _ => K0) (fun _ => ⟨pk_in (o.length + i) 12 (by omega), pk_in i 80 (by omega), br_c (fun _ => K1) (fun _ => K0)⟩))
theorem rd_feed {post : St2 → Prop} {f0_rules f0_size f0_line f0_coming f0_going f0_result f0_wanted f0_found f0_later : Int32} {a1 a2 a3 a4 a5 a6 a7 a8 a9 a10 a11 a12 a13 a15 a17 a18 : Nat → Int32} {a14 a16 : Nat → Int64} {l kd fr it lf rt b h s : Nat} {o : List Nat} {x : Int32} (hx : x = nI s) (hR : rc_R l kd fr it lf rt b h o f0_line f0_result a1 a2 a3 a4 a5 a7 a8 a9 a10 a13) (ho : o.length + 2 ≤ 12) (hs : s ≤ 4)
    (H : ∀ (f0_comingq f0_goingq f0_resultq f0_wantedq : Int32) (a8q a9q a10q a11q a12q a13q : Nat → Int32), rc_R l kd fr it lf rt (rc_nb kd b h s) (rc_nh kd h s) (o ++ rc_em l kd fr it lf rt b h s) f0_line f0_resultq a1 a2 a3 a4 a5 a7 a8q a9q a10q a13q → post (f0_rules, f0_size, f0_line, f0_comingq, f0_goingq, f0_resultq, f0_wantedq, f0_found, f0_later, a1, a2, a3, a4, a5, a6, a7, a8q, a9q, a10q, a11q, a12q, a13q, a14, a15, a16, a17, a18)) : wpX_feed_2 post (f0_rules, f0_size, f0_line, f0_coming, f0_going, f0_result, f0_wanted, f0_found, f0_later, a1, a2, a3, a4, a5, a6, a7, a8, a9, a10, a11, a12, a13, a14, a15, a16, a17, a18) x := by
  obtain ⟨r1, r2, r3, r4, r5, r6⟩ := hR
  subst hx
  have hl : l = 0 ∨ l = 1 := by omega
  rcases hl with e | e
  · subst e
    have hline : f0_line ≤ 0 := by rw [r1]; decide
    refine pk_eq s 4 (fun e4 => ⟨1, br_t hline ?_⟩) (fun n4 => nm_e ⟨1, br_t hline ?_⟩)
    · have E : rc_em 0 kd fr it lf rt b h s = [] := by rw [rc_em, if_pos rfl, if_pos e4]
      rw [E] at H
      exact rd_f56 (e := []) rfl r2 rc_ar_nil r3 rc_dig_nil (Nat.le_trans (by simp) ho) (fun wq b13 g => H _ _ _ wq _ _ _ _ _ b13 ⟨r1, rfl, g, rc_dig_app r4 rc_dig_nil, by decide, fun z => absurd z (by decide)⟩)
    · have E : rc_em 0 kd fr it lf rt b h s = [s] := by rw [rc_em, if_pos rfl, if_neg n4]
      rw [E] at H
      have D : rc_dig [s] := fun d hd => by
        have : d = s := by simpa using hd
        omega
      exact rd_f56 (e := [s]) rfl r2 (rc_ar_one (by rw [pk_us, rc_b8 s (by omega)])) r3 D (by simp; omega) (fun wq b13 g => H _ _ _ wq _ _ _ _ _ b13 ⟨r1, rfl, g, rc_dig_app r4 D, by decide, fun z => absurd z (by decide)⟩)
  · subst e
    obtain ⟨q1, q2, q3, q4, q5, q6, q7⟩ := r6 rfl
    have hit : it < 4 := q1.2.2.2.2.2.2.2.1
    have hl0 : ¬ f0_line ≤ 0 := by rw [r1]; decide
    have hl1 : f0_line ≤ 0 + 1 := by rw [r1]; decide
    have hlen := rc_em_len (l := 1) (kd := kd) (fr := fr) (it := it) (lf := lf) (rt := rt) (b := b) (h := h) (s := s)
    have D : rc_dig (rc_em 1 kd fr it lf rt b h s) := rc_em_dig hit q7 hs
    refine pk_eq s 4 (fun e4 => ⟨2, br_f hl0 (br_t (by rw [e4]; rfl) (rd_pass q1 q2 q3 q4 q5 ho q6 q7 hs (Or.inl ⟨e4, rfl, rfl⟩) ?_))⟩) (fun n4 => nm_e ⟨2, br_f hl0 (br_f ?_ (rd_pass q1 q2 q3 q4 q5 ho q6 q7 hs (Or.inr ⟨by omega, rfl, ?_, rfl⟩) ?_))⟩)
    · intro c g b8 b9 b10 b11 b12 g1 g2 g3 g4 g5
      exact nm_e (br_t hl1 (rd_f56 g1 r2 g2 r3 D (by omega) (fun wq b13 k => H _ _ _ wq _ _ _ _ _ b13 ⟨r1, rfl, k, rc_dig_app r4 D, by decide, fun _ => ⟨q1, q2, g4, g5, by rw [g3, List.length_append], rc_nb_le q6 q7 hs, rc_nh_ok q7 hs⟩⟩)))
    · intro z
      exact n4 ((nI_eq (by omega) (by decide)).mp z)
    · rw [pk_us, rc_b8 s (by omega)]
    · intro c g b8 b9 b10 b11 b12 g1 g2 g3 g4 g5
      exact nm_e (br_t hl1 (rd_f56 g1 r2 g2 r3 D (by omega) (fun wq b13 k => H _ _ _ wq _ _ _ _ _ b13 ⟨r1, rfl, k, rc_dig_app r4 D, by decide, fun _ => ⟨q1, q2, g4, g5, by rw [g3, List.length_append], rc_nb_le q6 q7 hs, rc_nh_ok q7 hs⟩⟩)))
theorem rd_begin {post : St2 → Prop} {f0_rules f0_size f0_line f0_coming f0_going f0_result f0_wanted f0_found f0_later : Int32} {a1 a2 a3 a4 a5 a6 a7 a8 a9 a10 a11 a12 a13 a15 a17 a18 : Nat → Int32} {a14 a16 : Nat → Int64} (H : ∀ b8 b9 b10 : Nat → Int32, b8 0 = nI 4 → b9 0 = nI 5 → b10 0 = nI 0 → post (f0_rules, f0_size, f0_line, f0_coming, f0_going, 0, 1, f0_found, f0_later, a1, a2, a3, a4, a5, a6, a7, b8, b9, b10, a11, a12, a13, a14, a15, a16, a17, a18)) : wpX_begin_2 post (f0_rules, f0_size, f0_line, f0_coming, f0_going, f0_result, f0_wanted, f0_found, f0_later, a1, a2, a3, a4, a5, a6, a7, a8, a9, a10, a11, a12, a13, a14, a15, a16, a17, a18) := by
  refine pk_loop (fun n i (s : (Nat → Int32) × (Nat → Int32) × (Nat → Int32)) => wX_begin_2_2 post f0_rules f0_size f0_line f0_coming f0_going f0_result f0_wanted f0_found f0_later n (nI i) a1 a2 a3 a4 a5 a6 a7 (s.1) (s.2.1) (s.2.2) a11 a12 a13 a14 a15 a16 a17 a18) (fun i s => 0 < i → s.1 0 = nI 4 ∧ s.2.1 0 = nI 5 ∧ s.2.2 0 = nI 0) 5 0 (a8, a9, a10) (by decide) (fun z => absurd z (by decide)) ?_ ?_
  · intro n s hI
    have t := hI (by decide)
    exact pk_le 5 5 (fun _ => H _ _ _ t.1 t.2.1 t.2.2) (fun z => absurd z (by decide))
  · intro n i s hi hI hw
    exact pk_le 5 i (fun z => absurd z (by omega)) (fun _ => ⟨pk_in i 5 hi, nm_e ⟨pk_in i 5 hi, nm_e ⟨pk_in i 5 hi, nm_e (nm_r (nI_1 i) (hw (_, _, _) (fun _ => ⟨rc_up0 hi (fun z => (hI z).1), rc_up0 hi (fun z => (hI z).2.1), rc_up0 hi (fun z => (hI z).2.2)⟩)))⟩⟩⟩)
theorem rd_rnl {post : Int32 → St2 → Prop} {l kd fr it lf rt num : Nat} (hn : num < 1024) : ∀ (k b h : Nat) (o : List Nat) (f0_rules f0_size f0_line f0_coming f0_going f0_result f0_wanted f0_found f0_later : Int32) (a1 a2 a3 a4 a5 a6 a7 a8 a9 a10 a11 a12 a13 a15 a17 a18 : Nat → Int32) (a14 a16 : Nat → Int64), k ≤ 5 → rc_R l kd fr it lf rt b h o f0_line f0_result a1 a2 a3 a4 a5 a7 a8 a9 a10 a13 → o.length + (l + 1) * k + 2 ≤ 12 →
    (∀ (f0_comingq f0_goingq f0_resultq f0_wantedq : Int32) (a8q a9q a10q a11q a12q a13q : Nat → Int32), post (nI (rc_cd (o ++ rc_run l kd fr it lf rt b h (rc_dl num k ++ [4])))) (f0_rules, f0_size, f0_line, f0_comingq, f0_goingq, f0_resultq, f0_wantedq, f0_found, f0_later, a1, a2, a3, a4, a5, a6, a7, a8q, a9q, a10q, a11q, a12q, a13q, a14, a15, a16, a17, a18)) → wX_runNumber_2_8 post (nI num) (k + 1) (nI k - 1) f0_rules f0_size f0_line f0_coming f0_going f0_result f0_wanted f0_found f0_later a1 a2 a3 a4 a5 a6 a7 a8 a9 a10 a11 a12 a13 a14 a15 a16 a17 a18 := by
  intro k
  induction k with
  | zero =>
    intro b h o f0_rules f0_size f0_line f0_coming f0_going f0_result f0_wanted f0_found f0_later a1 a2 a3 a4 a5 a6 a7 a8 a9 a10 a11 a12 a13 a15 a17 a18 a14 a16 hk hR ho H
    have hlen := rc_em_len (l := l) (kd := kd) (fr := fr) (it := it) (lf := lf) (rt := rt) (b := b) (h := h) (s := 4)
    have hl1 : l ≤ 1 := hR.2.2.2.2.1
    have E : o ++ rc_run l kd fr it lf rt b h (rc_dl num 0 ++ [4]) = o ++ rc_em l kd fr it lf rt b h 4 := by
      simp [rc_run, rc_dl]
    rw [E] at H
    refine br_t (by decide) (rd_feed (s := 4) rfl hR (by omega) (by decide) (fun f0_comingq f0_goingq f0_resultq f0_wantedq a8q a9q a10q a11q a12q a13q hR' => rc_code hR'.2.1 hR'.2.2.1 ?_ (H f0_comingq f0_goingq f0_resultq f0_wantedq a8q a9q a10q a11q a12q a13q)))
    rw [List.length_append]
    omega
  | succ k ih =>
    intro b h o f0_rules f0_size f0_line f0_coming f0_going f0_result f0_wanted f0_found f0_later a1 a2 a3 a4 a5 a6 a7 a8 a9 a10 a11 a12 a13 a15 a17 a18 a14 a16 hk hR ho H
    have hlen := rc_em_len (l := l) (kd := kd) (fr := fr) (it := it) (lf := lf) (rt := rt) (b := b) (h := h) (s := num / 4 ^ k % 4)
    have E : o ++ rc_run l kd fr it lf rt b h (rc_dl num (k + 1) ++ [4]) = (o ++ rc_em l kd fr it lf rt b h (num / 4 ^ k % 4)) ++ rc_run l kd fr it lf rt (rc_nb kd b h (num / 4 ^ k % 4)) (rc_nh kd h (num / 4 ^ k % 4)) (rc_dl num k ++ [4]) := by
      rw [rc_dl, List.cons_append, rc_run, List.append_assoc]
    rw [E] at H
    rw [Nat.mul_succ] at ho
    rw [nI_pred]
    refine br_f (nI_pos (by omega)) (rd_feed (s := num / 4 ^ k % 4) (rc_dg hn (by omega)) hR (by omega) (by omega) (fun f0_comingq f0_goingq f0_resultq f0_wantedq a8q a9q a10q a11q a12q a13q hR' => nm_r (Int32.sub_eq_add_neg _ _).symm (ih _ _ _ f0_rules f0_size f0_line f0_comingq f0_goingq f0_resultq f0_wantedq f0_found f0_later a1 a2 a3 a4 a5 a6 a7 a8q a9q a10q a11q a12q a13q a15 a17 a18 a14 a16 (by omega) hR' ?_ H)))
    rw [List.length_append]
    omega
theorem rd_runNumber {post : Int32 → St2 → Prop} {f0_rules f0_size f0_line f0_coming f0_going f0_result f0_wanted f0_found f0_later : Int32} {a1 a2 a3 a4 a5 a6 a7 a8 a9 a10 a11 a12 a13 a15 a17 a18 : Nat → Int32} {a14 a16 : Nat → Int64} {l kd fr it lf rt num n : Nat} {x y : Int32} (hx : x = nI num) (hy : y = nI n) (hnum : num < 1024) (hn : n ≤ 5) (hl : f0_line = nI l) (hl1 : l ≤ 1) (hr : l = 1 → rc_rule kd fr it lf rt a1 a2 a3 a4 a5) (h7 : l = 1 → a7 0 = nI 0) (hb : (l + 1) * n + 2 ≤ 12)
    (H : ∀ (f0_comingq f0_goingq f0_resultq f0_wantedq : Int32) (a8q a9q a10q a11q a12q a13q : Nat → Int32), post (nI (rc_cd (rc_run l kd fr it lf rt 4 5 (rc_dl num n ++ [4])))) (f0_rules, f0_size, f0_line, f0_comingq, f0_goingq, f0_resultq, f0_wantedq, f0_found, f0_later, a1, a2, a3, a4, a5, a6, a7, a8q, a9q, a10q, a11q, a12q, a13q, a14, a15, a16, a17, a18)) : wpX_runNumber_2 post (f0_rules, f0_size, f0_line, f0_coming, f0_going, f0_result, f0_wanted, f0_found, f0_later, a1, a2, a3, a4, a5, a6, a7, a8, a9, a10, a11, a12, a13, a14, a15, a16, a17, a18) x y := by
  subst hx hy
  refine rd_begin (fun b8 b9 b10 h8 h9 h10 => nm_e ⟨n + 1, rd_rnl (l := l) (kd := kd) (fr := fr) (it := it) (lf := lf) (rt := rt) hnum n 4 5 [] f0_rules f0_size f0_line f0_coming f0_going _ _ f0_found f0_later a1 a2 a3 a4 a5 a6 a7 _ _ _ a11 a12 a13 a15 a17 a18 a14 a16 hn ⟨hl, rfl, rc_ar_nil, rc_dig_nil, hl1, fun z => ⟨hr z, h7 z, h8, h9, h10, by decide, Or.inr rfl⟩⟩ ?_ ?_⟩)
  · simpa using hb
  · exact fun f0_comingq f0_goingq f0_resultq f0_wantedq a8q a9q a10q a11q a12q a13q => H f0_comingq f0_goingq f0_resultq f0_wantedq a8q a9q a10q a11q a12q a13q
end
section
theorem rc_bn {post : Int32 → Prop} {f0_rules f0_size f0_line f0_coming f0_going f0_result f0_wanted f0_found f0_later : Int32} {a1 a2 a3 a4 a5 a6 a7 a8 a9 a10 a11 a12 a13 a15 a17 a18 : Nat → Int32} {a14 a16 : Nat → Int64} {x : Int32} {n : Nat} (hx : x = nI n) (hn : n ≤ 5) (H : post 0) : wpX_badNumber post (f0_rules, f0_size, f0_line, f0_coming, f0_going, f0_result, f0_wanted, f0_found, f0_later, a1, a2, a3, a4, a5, a6, a7, a8, a9, a10, a11, a12, a13, a14, a15, a16, a17, a18) x :=
  br_f (by rw [hx]; exact nI_pos (by omega)) (br_t (by rw [hx]; exact nI_le (b := 5) hn (by decide)) H)
/-! sources of no letters, with no rule and an empty word -/
theorem rc_cnt {post : Int32 → St2 → Prop} {f0_rules f0_size f0_line f0_coming f0_going f0_result f0_wanted f0_found f0_later : Int32} {a1 a2 a3 a4 a5 a6 a7 a8 a9 a10 a11 a12 a13 a15 a17 a18 : Nat → Int32} {a14 a16 : Nat → Int64} (hl : f0_line = nI 0) (hs : f0_size = 0)
    (H : ∀ {f0_rules' f0_size' f0_line' f0_coming' f0_going' f0_result' f0_wanted' f0_found' f0_later' : Int32} {a1' a2' a3' a4' a5' a6' a7' a8' a9' a10' a11' a12' a13' a15' a17' a18' : Nat → Int32} {a14' a16' : Nat → Int64}, f0_rules' = f0_rules → f0_size' = f0_size → a1' = a1 → a2' = a2 → a3' = a3 → a4' = a4 → a5' = a5 → a6' = a6 → post (nI 1) (f0_rules', f0_size', f0_line', f0_coming', f0_going', f0_result', f0_wanted', f0_found', f0_later', a1', a2', a3', a4', a5', a6', a7', a8', a9', a10', a11', a12', a13', a14', a15', a16', a17', a18')) : wpX_countFrom post (f0_rules, f0_size, f0_line, f0_coming, f0_going, f0_result, f0_wanted, f0_found, f0_later, a1, a2, a3, a4, a5, a6, a7, a8, a9, a10, a11, a12, a13, a14, a15, a16, a17, a18) ((0 : Int32).toInt64) 0 := by
  subst hl hs
  refine nm_e (nm_e ⟨1, br_t (by decide) ⟨2, br_f (by decide) ⟨pk_in 0 1024 (by decide), nm_r (show nI 0 - 1 = -1 from rfl) ⟨1, br_t (by decide) (rc_feedE rfl (br_f (by decide) (br_t ?_ ⟨pk_in 0 1024 (by decide), nm_e (nm_e (br_t (by decide) ?_))⟩)))⟩⟩⟩⟩)
  · rfl
  · exact H rfl rfl rfl rfl rfl rfl rfl rfl
theorem rc_sources0 {post : Int32 → St2 → Prop} {f0_rules f0_size f0_line f0_coming f0_going f0_result f0_wanted f0_found f0_later : Int32} {a1 a2 a3 a4 a5 a6 a7 a8 a9 a10 a11 a12 a13 a15 a17 a18 : Nat → Int32} {a14 a16 : Nat → Int64} {kd fr it lf rt : Nat} (hP : rc_P 0 kd fr it lf rt [] f0_rules f0_size a1 a2 a3 a4 a5 a6)
    (H : ∀ {f0_rules' f0_size' f0_line' f0_coming' f0_going' f0_result' f0_wanted' f0_found' f0_later' : Int32} {a1' a2' a3' a4' a5' a6' a7' a8' a9' a10' a11' a12' a13' a15' a17' a18' : Nat → Int32} {a14' a16' : Nat → Int64}, rc_P 0 kd fr it lf rt [] f0_rules' f0_size' a1' a2' a3' a4' a5' a6' → post (nI 1) (f0_rules', f0_size', f0_line', f0_coming', f0_going', f0_result', f0_wanted', f0_found', f0_later', a1', a2', a3', a4', a5', a6', a7', a8', a9', a10', a11', a12', a13', a14', a15', a16', a17', a18')) : wpX_sources post (f0_rules, f0_size, f0_line, f0_coming, f0_going, f0_result, f0_wanted, f0_found, f0_later, a1, a2, a3, a4, a5, a6, a7, a8, a9, a10, a11, a12, a13, a14, a15, a16, a17, a18) 0 := by
  obtain ⟨p1, p2, p3, p4, p5, p6⟩ := hP
  refine br_f (by decide) (br_t (by decide) (br_t rfl (rc_use (f0_line := f0_line) (l := 0) p1 (by decide) (fun b7 _ => rc_begin (fun b8 b9 b10 _ _ _ => ⟨1, br_t (by decide) (rc_cnt rfl p3 ?_)⟩)))))
  intro f0_rules' f0_size' f0_line' f0_coming' f0_going' f0_result' f0_wanted' f0_found' f0_later' a1' a2' a3' a4' a5' a6' a7' a8' a9' a10' a11' a12' a13' a15' a17' a18' a14' a16' e1 e2 e3 e4 e5 e6 e7 e8
  subst e1 e2 e3 e4 e5 e6 e7 e8
  exact H ⟨p1, p2, p3, p4, p5, p6⟩
theorem rc_source00 {post : Int32 → St2 → Prop} {f0_rules f0_size f0_line f0_coming f0_going f0_result f0_wanted f0_found f0_later : Int32} {a1 a2 a3 a4 a5 a6 a7 a8 a9 a10 a11 a12 a13 a15 a17 a18 : Nat → Int32} {a14 a16 : Nat → Int64} {kd fr it lf rt : Nat} (hP : rc_P 0 kd fr it lf rt [] f0_rules f0_size a1 a2 a3 a4 a5 a6)
    (H : ∀ {f0_rules' f0_size' f0_line' f0_coming' f0_going' f0_result' f0_wanted' f0_found' f0_later' : Int32} {a1' a2' a3' a4' a5' a6' a7' a8' a9' a10' a11' a12' a13' a15' a17' a18' : Nat → Int32} {a14' a16' : Nat → Int64}, rc_P 0 kd fr it lf rt [] f0_rules' f0_size' a1' a2' a3' a4' a5' a6' → post (nI 1) (f0_rules', f0_size', f0_line', f0_coming', f0_going', f0_result', f0_wanted', f0_found', f0_later', a1', a2', a3', a4', a5', a6', a7', a8', a9', a10', a11', a12', a13', a14', a15', a16', a17', a18')) : wpX_source post (f0_rules, f0_size, f0_line, f0_coming, f0_going, f0_result, f0_wanted, f0_found, f0_later, a1, a2, a3, a4, a5, a6, a7, a8, a9, a10, a11, a12, a13, a14, a15, a16, a17, a18) 0 0 := by
  obtain ⟨p1, p2, p3, p4, p5, p6⟩ := hP
  refine br_f (by decide) (br_t (by decide) (br_t rfl (rc_use (f0_line := f0_line) (l := 0) p1 (by decide) (fun b7 _ => rc_begin (fun b8 b9 b10 _ _ _ => ⟨1, br_t (by decide) (rc_cnt rfl p3 ?_)⟩)))))
  intro f0_rules' f0_size' f0_line' f0_coming' f0_going' f0_result' f0_wanted' f0_found' f0_later' a1' a2' a3' a4' a5' a6' a7' a8' a9' a10' a11' a12' a13' a15' a17' a18' a14' a16' e1 e2 e3 e4 e5 e6 e7 e8
  subst e1 e2 e3 e4 e5 e6 e7 e8
  exact br_f (by decide) (br_t (by decide) (nm_e ⟨1, br_t (by decide) (H ⟨p1, p2, p3, p4, p5, p6⟩)⟩))
theorem rc_source01 {post : Int32 → St2 → Prop} {f0_rules f0_size f0_line f0_coming f0_going f0_result f0_wanted f0_found f0_later : Int32} {a1 a2 a3 a4 a5 a6 a7 a8 a9 a10 a11 a12 a13 a15 a17 a18 : Nat → Int32} {a14 a16 : Nat → Int64} {kd fr it lf rt : Nat} (hP : rc_P 0 kd fr it lf rt [] f0_rules f0_size a1 a2 a3 a4 a5 a6)
    (H : ∀ {f0_rules' f0_size' f0_line' f0_coming' f0_going' f0_result' f0_wanted' f0_found' f0_later' : Int32} {a1' a2' a3' a4' a5' a6' a7' a8' a9' a10' a11' a12' a13' a15' a17' a18' : Nat → Int32} {a14' a16' : Nat → Int64}, rc_P 0 kd fr it lf rt [] f0_rules' f0_size' a1' a2' a3' a4' a5' a6' → post (-4) (f0_rules', f0_size', f0_line', f0_coming', f0_going', f0_result', f0_wanted', f0_found', f0_later', a1', a2', a3', a4', a5', a6', a7', a8', a9', a10', a11', a12', a13', a14', a15', a16', a17', a18')) : wpX_source post (f0_rules, f0_size, f0_line, f0_coming, f0_going, f0_result, f0_wanted, f0_found, f0_later, a1, a2, a3, a4, a5, a6, a7, a8, a9, a10, a11, a12, a13, a14, a15, a16, a17, a18) 0 1 := by
  obtain ⟨p1, p2, p3, p4, p5, p6⟩ := hP
  refine br_f (by decide) (br_t (by decide) (br_t rfl (rc_use (f0_line := f0_line) (l := 0) p1 (by decide) (fun b7 _ => rc_begin (fun b8 b9 b10 _ _ _ => ⟨1, br_t (by decide) (rc_cnt rfl p3 ?_)⟩)))))
  intro f0_rules' f0_size' f0_line' f0_coming' f0_going' f0_result' f0_wanted' f0_found' f0_later' a1' a2' a3' a4' a5' a6' a7' a8' a9' a10' a11' a12' a13' a15' a17' a18' a14' a16' e1 e2 e3 e4 e5 e6 e7 e8
  subst e1 e2 e3 e4 e5 e6 e7 e8
  exact br_f (by decide) (br_f (by decide) (H ⟨p1, p2, p3, p4, p5, p6⟩))
/-! all words of n letters -/
theorem rc_pw : ∀ n, n < 3 → (1 : Int32) <<< ((2 * nI n) &&& 31) = nI (4 ^ n) := by decide
theorem rc_pwo : ∀ n, n < 3 → ∀ i, i < 16 → i < 4 ^ n → ((1 : Int32) <<< ((2 * nI n) &&& 31)) ||| nI i = nI (4 ^ n + i) := by decide
theorem rc_cdl : ∀ n, n < 3 → ∀ i, i < 16 → i < 4 ^ n → rc_cd (rc_dl i n) = 4 ^ n + i := by decide
theorem rc_p16 : ∀ n, n < 3 → 4 ^ n ≤ 16 := by decide
theorem rc_keepCode {post : Int32 → St2 → Prop} {f0_rules f0_size f0_line f0_coming f0_going f0_result f0_wanted f0_found f0_later : Int32} {a1 a2 a3 a4 a5 a6 a7 a8 a9 a10 a11 a12 a13 a15 a17 a18 : Nat → Int32} {a14 a16 : Nat → Int64} {c k : Nat} {x y : Int32} (hx : x = nI (c + k)) (hy : y = nI k) (h18 : ∀ j, j < k → a18 j = nI (c + j)) (hk : k < 1024) (hc : c < 1024)
    (H : ∀ b18 : Nat → Int32, (∀ j, j < k + 1 → b18 j = nI (c + j)) → post (nI (k + 1)) (f0_rules, f0_size, f0_line, f0_coming, f0_going, f0_result, f0_wanted, f0_found, f0_later, a1, a2, a3, a4, a5, a6, a7, a8, a9, a10, a11, a12, a13, a14, a15, a16, a17, b18)) : wpX_keepCode post (f0_rules, f0_size, f0_line, f0_coming, f0_going, f0_result, f0_wanted, f0_found, f0_later, a1, a2, a3, a4, a5, a6, a7, a8, a9, a10, a11, a12, a13, a14, a15, a16, a17, a18) x y := by
  subst hx hy
  have T : ∃ fu, wX_keepCode_65 post (nI (c + k)) (nI k) (nI k) f0_rules f0_size f0_line f0_coming f0_going f0_result f0_wanted f0_found f0_later fu (nI k) a1 a2 a3 a4 a5 a6 a7 a8 a9 a10 a11 a12 a13 a14 a15 a16 a17 a18 := by
    refine ⟨1, pk_le k k (fun _ => ⟨pk_in k 1024 hk, nm_e ?_⟩) (fun z => absurd z (by omega))⟩
    rw [nI_1]
    refine H _ (fun j hj => ?_)
    rw [nI_clamp (by omega)]
    by_cases e : j = k
    · rw [e, pk_us]
    · rw [pk_un e]
      exact h18 j (by omega)
  refine loop_m (fun n (s : Nat) => wX_keepCode_5 post (nI (c + k)) (nI k) f0_rules f0_size f0_line f0_coming f0_going f0_result f0_wanted f0_found f0_later a1 a2 a3 a4 a5 a6 a7 a8 a9 a10 a11 a12 a13 a14 a15 a16 a17 a18 n (nI s) (nI k)) (fun s => s ≤ k) (fun s => k - s) ?_ 0 (by omega)
  intro n s hs hw
  have hs : s ≤ k := hs
  refine pk_le k s (fun z => br_t (nI_le z (by omega)) (by rw [show s = k by omega]; exact T)) (fun z => ⟨by decide, nm_r (e' := nI ((s + k) / 2)) ?_ ⟨pk_in ((s + k) / 2) 1024 (by omega), br_f ?_ (nm_r (nI_1 _) (hw ((s + k) / 2 + 1) ?_ ?_))⟩⟩)
  · rw [nI_add, show (2 : Int32) = nI 2 from rfl, pk_div (by omega) (by decide) (by decide)]
  · rw [nI_clamp (by omega), h18 _ (by omega)]
    exact nI_ge (by omega) (by omega)
  · show (s + k) / 2 + 1 ≤ k
    omega
  · show k - ((s + k) / 2 + 1) < k - s
    omega
theorem rc_iml {post : Int32 → St2 → Prop} {R kd fr it lf rt n : Nat} {w : List Nat} (hn : n < 3) (hb : (R + 1) * n + 2 ≤ 12) (hrun : ∀ i, i < 4 ^ n → rc_run R kd fr it lf rt 4 5 (rc_dl i n ++ [4]) = rc_dl i n)
    (H : ∀ {f0_rules' f0_size' f0_line' f0_coming' f0_going' f0_result' f0_wanted' f0_found' f0_later' : Int32} {a1' a2' a3' a4' a5' a6' a7' a8' a9' a10' a11' a12' a13' a15' a17' a18' : Nat → Int32} {a14' a16' : Nat → Int64}, rc_P R kd fr it lf rt w f0_rules' f0_size' a1' a2' a3' a4' a5' a6' → post (nI (4 ^ n)) (f0_rules', f0_size', f0_line', f0_coming', f0_going', f0_result', f0_wanted', f0_found', f0_later', a1', a2', a3', a4', a5', a6', a7', a8', a9', a10', a11', a12', a13', a14', a15', a16', a17', a18')) : ∀ (k i : Nat) (f0_rules f0_size f0_line f0_coming f0_going f0_result f0_wanted f0_found f0_later : Int32) (a1 a2 a3 a4 a5 a6 a7 a8 a9 a10 a11 a12 a13 a15 a17 a18 : Nat → Int32) (a14 a16 : Nat → Int64), i + k = 4 ^ n → rc_P R kd fr it lf rt w f0_rules f0_size a1 a2 a3 a4 a5 a6 → f0_line = nI R → (R = 1 → a7 0 = nI 0) → (∀ j, j < i → a18 j = nI (4 ^ n + j)) → wX_images_22 post (nI n) (k + 1) (nI i) (nI i) f0_rules f0_size f0_line f0_coming f0_going f0_result f0_wanted f0_found f0_later a1 a2 a3 a4 a5 a6 a7 a8 a9 a10 a11 a12 a13 a14 a15 a16 a17 a18 := by
  have h16 := rc_p16 n hn
  intro k
  induction k with
  | zero =>
    intro i f0_rules f0_size f0_line f0_coming f0_going f0_result f0_wanted f0_found f0_later a1 a2 a3 a4 a5 a6 a7 a8 a9 a10 a11 a12 a13 a15 a17 a18 a14 a16 hi hP hl h7 h18
    have e : i = 4 ^ n := by omega
    refine pk_le (4 ^ n) i (fun _ => ?_) (fun z => absurd z (by omega)) (rc_pw n hn)
    rw [e]
    exact H hP
  | succ k ih =>
    intro i f0_rules f0_size f0_line f0_coming f0_going f0_result f0_wanted f0_found f0_later a1 a2 a3 a4 a5 a6 a7 a8 a9 a10 a11 a12 a13 a15 a17 a18 a14 a16 hi hP hl h7 h18
    have him : i < 4 ^ n := by omega
    refine pk_le (4 ^ n) i (fun z => absurd z (by omega)) (fun _ => rc_runNumber rfl rfl (by omega) (by omega) hl hP.2.1 hP.2.2.2.2.2 h7 hb (fun f0_comingq f0_goingq f0_resultq f0_wantedq a8q a9q a10q a11q a12q a13q => rc_keepCode (c := 4 ^ n) (k := i) ?_ rfl h18 (by omega) (by omega) (fun b18 g18 => nm_r (nI_1 i) (ih (i + 1) f0_rules f0_size f0_line f0_comingq f0_goingq f0_resultq f0_wantedq f0_found f0_later a1 a2 a3 a4 a5 a6 a7 a8q a9q a10q a11q a12q a13q a15 a17 b18 a14 a16 (by omega) hP hl h7 g18)))) (rc_pw n hn)
    rw [hrun i him, rc_cdl n hn i (by omega) him]
theorem rc_images {post : Int32 → St2 → Prop} {f0_rules f0_size f0_line f0_coming f0_going f0_result f0_wanted f0_found f0_later : Int32} {a1 a2 a3 a4 a5 a6 a7 a8 a9 a10 a11 a12 a13 a15 a17 a18 : Nat → Int32} {a14 a16 : Nat → Int64} {R kd fr it lf rt n : Nat} {w : List Nat} {x : Int32} (hx : x = nI n) (hn : n < 3) (hb : (R + 1) * n + 2 ≤ 12) (hrun : ∀ i, i < 4 ^ n → rc_run R kd fr it lf rt 4 5 (rc_dl i n ++ [4]) = rc_dl i n) (hP : rc_P R kd fr it lf rt w f0_rules f0_size a1 a2 a3 a4 a5 a6)
    (H : ∀ {f0_rules' f0_size' f0_line' f0_coming' f0_going' f0_result' f0_wanted' f0_found' f0_later' : Int32} {a1' a2' a3' a4' a5' a6' a7' a8' a9' a10' a11' a12' a13' a15' a17' a18' : Nat → Int32} {a14' a16' : Nat → Int64}, rc_P R kd fr it lf rt w f0_rules' f0_size' a1' a2' a3' a4' a5' a6' → post (nI (4 ^ n)) (f0_rules', f0_size', f0_line', f0_coming', f0_going', f0_result', f0_wanted', f0_found', f0_later', a1', a2', a3', a4', a5', a6', a7', a8', a9', a10', a11', a12', a13', a14', a15', a16', a17', a18')) : wpX_images post (f0_rules, f0_size, f0_line, f0_coming, f0_going, f0_result, f0_wanted, f0_found, f0_later, a1, a2, a3, a4, a5, a6, a7, a8, a9, a10, a11, a12, a13, a14, a15, a16, a17, a18) x := by
  subst hx
  exact br_f (nI_pos (by omega)) (br_t (nI_le (b := 5) (by omega) (by decide)) (br_t rfl (rc_use (f0_line := f0_line) hP.1 hP.2.1 (fun b7 h7 => ⟨4 ^ n + 1, rc_iml hn hb hrun H (4 ^ n) 0 f0_rules f0_size (nI R) f0_coming f0_going f0_result f0_wanted f0_found f0_later a1 a2 a3 a4 a5 a6 b7 a8 a9 a10 a11 a12 a13 a15 a17 a18 a14 a16 (by omega) hP rfl h7 (fun j hj => absurd hj (by omega))⟩))))
theorem rc_stl {post : Int32 → St2 → Prop} {R kd fr it lf rt n : Nat} {w : List Nat} (hn : n < 3) (hb : (R + 1) * n + 2 ≤ 12) (hrun : ∀ i, i < 4 ^ n → rc_run R kd fr it lf rt 4 5 (rc_dl i n ++ [4]) = rc_dl i n)
    (H : ∀ {f0_rules' f0_size' f0_line' f0_coming' f0_going' f0_result' f0_wanted' f0_found' f0_later' : Int32} {a1' a2' a3' a4' a5' a6' a7' a8' a9' a10' a11' a12' a13' a15' a17' a18' : Nat → Int32} {a14' a16' : Nat → Int64}, rc_P R kd fr it lf rt w f0_rules' f0_size' a1' a2' a3' a4' a5' a6' → post (nI (4 ^ n)) (f0_rules', f0_size', f0_line', f0_coming', f0_going', f0_result', f0_wanted', f0_found', f0_later', a1', a2', a3', a4', a5', a6', a7', a8', a9', a10', a11', a12', a13', a14', a15', a16', a17', a18')) : ∀ (k i : Nat) (f0_rules f0_size f0_line f0_coming f0_going f0_result f0_wanted f0_found f0_later : Int32) (a1 a2 a3 a4 a5 a6 a7 a8 a9 a10 a11 a12 a13 a15 a17 a18 : Nat → Int32) (a14 a16 : Nat → Int64), i + k = 4 ^ n → rc_P R kd fr it lf rt w f0_rules f0_size a1 a2 a3 a4 a5 a6 → f0_line = nI R → (R = 1 → a7 0 = nI 0) → wX_still_22 post (nI n) (k + 1) (nI i) (nI i) f0_rules f0_size f0_line f0_coming f0_going f0_result f0_wanted f0_found f0_later a1 a2 a3 a4 a5 a6 a7 a8 a9 a10 a11 a12 a13 a14 a15 a16 a17 a18 := by
  have h16 := rc_p16 n hn
  intro k
  induction k with
  | zero =>
    intro i f0_rules f0_size f0_line f0_coming f0_going f0_result f0_wanted f0_found f0_later a1 a2 a3 a4 a5 a6 a7 a8 a9 a10 a11 a12 a13 a15 a17 a18 a14 a16 hi hP hl h7
    have e : i = 4 ^ n := by omega
    refine pk_le (4 ^ n) i (fun _ => ?_) (fun z => absurd z (by omega)) (rc_pw n hn)
    rw [e]
    exact H hP
  | succ k ih =>
    intro i f0_rules f0_size f0_line f0_coming f0_going f0_result f0_wanted f0_found f0_later a1 a2 a3 a4 a5 a6 a7 a8 a9 a10 a11 a12 a13 a15 a17 a18 a14 a16 hi hP hl h7
    have him : i < 4 ^ n := by omega
    refine pk_le (4 ^ n) i (fun z => absurd z (by omega)) (fun _ => rc_runNumber rfl rfl (by omega) (by omega) hl hP.2.1 hP.2.2.2.2.2 h7 hb (fun f0_comingq f0_goingq f0_resultq f0_wantedq a8q a9q a10q a11q a12q a13q => br_t ?_ (nm_r (nI_1 i) (nm_r (nI_1 i) (ih (i + 1) f0_rules f0_size f0_line f0_comingq f0_goingq f0_resultq f0_wantedq f0_found f0_later a1 a2 a3 a4 a5 a6 a7 a8q a9q a10q a11q a12q a13q a15 a17 a18 a14 a16 (by omega) hP hl h7))))) (rc_pw n hn)
    rw [hrun i him, rc_cdl n hn i (by omega) him, rc_pwo n hn i (by omega) him]
theorem rc_still {post : Int32 → St2 → Prop} {f0_rules f0_size f0_line f0_coming f0_going f0_result f0_wanted f0_found f0_later : Int32} {a1 a2 a3 a4 a5 a6 a7 a8 a9 a10 a11 a12 a13 a15 a17 a18 : Nat → Int32} {a14 a16 : Nat → Int64} {R kd fr it lf rt n : Nat} {w : List Nat} {x : Int32} (hx : x = nI n) (hn : n < 3) (hb : (R + 1) * n + 2 ≤ 12) (hrun : ∀ i, i < 4 ^ n → rc_run R kd fr it lf rt 4 5 (rc_dl i n ++ [4]) = rc_dl i n) (hP : rc_P R kd fr it lf rt w f0_rules f0_size a1 a2 a3 a4 a5 a6)
    (H : ∀ {f0_rules' f0_size' f0_line' f0_coming' f0_going' f0_result' f0_wanted' f0_found' f0_later' : Int32} {a1' a2' a3' a4' a5' a6' a7' a8' a9' a10' a11' a12' a13' a15' a17' a18' : Nat → Int32} {a14' a16' : Nat → Int64}, rc_P R kd fr it lf rt w f0_rules' f0_size' a1' a2' a3' a4' a5' a6' → post (nI (4 ^ n)) (f0_rules', f0_size', f0_line', f0_coming', f0_going', f0_result', f0_wanted', f0_found', f0_later', a1', a2', a3', a4', a5', a6', a7', a8', a9', a10', a11', a12', a13', a14', a15', a16', a17', a18')) : wpX_still post (f0_rules, f0_size, f0_line, f0_coming, f0_going, f0_result, f0_wanted, f0_found, f0_later, a1, a2, a3, a4, a5, a6, a7, a8, a9, a10, a11, a12, a13, a14, a15, a16, a17, a18) x := by
  subst hx
  exact br_f (nI_pos (by omega)) (br_t (nI_le (b := 5) (by omega) (by decide)) (br_t rfl (rc_use (f0_line := f0_line) hP.1 hP.2.1 (fun b7 h7 => ⟨4 ^ n + 1, rc_stl hn hb hrun H (4 ^ n) 0 f0_rules f0_size (nI R) f0_coming f0_going f0_result f0_wanted f0_found f0_later a1 a2 a3 a4 a5 a6 b7 a8 a9 a10 a11 a12 a13 a15 a17 a18 a14 a16 (by omega) hP rfl h7⟩))))
theorem rc_run1 {kd fr it lf rt : Nat} (hk : kd < 2) : rc_run 1 kd fr it lf rt 4 5 (rc_dl 0 0 ++ [4]) = [] := by
  have : ¬ kd = 2 := by omega
  simp [rc_run, rc_em, rc_dl, this]
theorem rc_idle0 {post : Int32 → St2 → Prop} {f0_rules f0_size f0_line f0_coming f0_going f0_result f0_wanted f0_found f0_later : Int32} {a1 a2 a3 a4 a5 a6 a7 a8 a9 a10 a11 a12 a13 a15 a17 a18 : Nat → Int32} {a14 a16 : Nat → Int64} {kd fr it lf rt : Nat} {w : List Nat} (hk : kd < 2) (hP : rc_P 1 kd fr it lf rt w f0_rules f0_size a1 a2 a3 a4 a5 a6)
    (H : ∀ {f0_rules' f0_size' f0_line' f0_coming' f0_going' f0_result' f0_wanted' f0_found' f0_later' : Int32} {a1' a2' a3' a4' a5' a6' a7' a8' a9' a10' a11' a12' a13' a15' a17' a18' : Nat → Int32} {a14' a16' : Nat → Int64}, rc_P 1 kd fr it lf rt w f0_rules' f0_size' a1' a2' a3' a4' a5' a6' → post (nI 1) (f0_rules', f0_size', f0_line', f0_coming', f0_going', f0_result', f0_wanted', f0_found', f0_later', a1', a2', a3', a4', a5', a6', a7', a8', a9', a10', a11', a12', a13', a14', a15', a16', a17', a18')) : wpX_idle post (f0_rules, f0_size, f0_line, f0_coming, f0_going, f0_result, f0_wanted, f0_found, f0_later, a1, a2, a3, a4, a5, a6, a7, a8, a9, a10, a11, a12, a13, a14, a15, a16, a17, a18) 0 0 := by
  have r1 := rc_run1 (fr := fr) (it := it) (lf := lf) (rt := rt) hk
  have r0 : rc_run 0 kd fr it lf rt 4 5 (rc_dl 0 0 ++ [4]) = [] := rc_run0 [] 4 5 rc_dig_nil
  obtain ⟨p1, p2, p3, p4, p5, p6⟩ := hP
  have p1' := p1
  subst p1
  refine br_f (by decide) (br_t (by decide) (br_f (by decide) (br_t (by decide) (br_t rfl (rc_use (f0_line := f0_line) (l := 1) rfl (by decide) (fun b7 h7 => ⟨2, br_f (by decide) ?_⟩))))))
  refine rd_runNumber (l := 1) (kd := kd) (fr := fr) (it := it) (lf := lf) (rt := rt) (num := 0) (n := 0) rfl rfl (by decide) (by decide) rfl (by decide) p6 h7 (by decide) (fun f0_comingq f0_goingq f0_resultq f0_wantedq a8q a9q a10q a11q a12q a13q => ⟨pk_in 0 1024 (by decide), nm_e (nm_e (br_t (by decide) (nm_r (show nI 1 - 1 = nI 0 from rfl) ⟨1, br_t (by decide) ⟨2, br_f (by decide) (br_f (by decide) (rc_runNumber (l := 0) (kd := kd) (fr := fr) (it := it) (lf := lf) (rt := rt) (num := 0) (n := 0) rfl rfl (by decide) (by decide) rfl (by decide) (fun z => absurd z (by decide)) (fun z => absurd z (by decide)) (by decide) ?_))⟩⟩)))⟩)
  rw [r1, r0]
  intro f0_comingq f0_goingq f0_resultq f0_wantedq a8q a9q a10q a11q a12q a13q
  exact ⟨pk_in 0 1024 (by decide), br_t (rc_u0 rfl).symm (nm_e (br_t (by decide) ⟨rfl, br_f (by decide) (H ⟨rfl, p2, p3, p4, p5, p6⟩)⟩))⟩
end
section
/-! the law's loop of four turns -/
def rc_A (R kd fr it sd : Nat) (x0 x1 x2 x3 : Int32) : Prop := R = 0 ∨ (R = 1 ∧ rc_G kd fr it sd x0 x1 x2 x3)
def rc_L (x4 : Int32) (i : Nat) : Nat := (x4 >>> ((2 * nI i) &&& 31)).toBitVec.toNat % 4
theorem rc_L4 (x4 : Int32) (i : Nat) : rc_L x4 i < 4 := Nat.mod_lt _ (by decide)
theorem rc_at {post : Int32 → Prop} {x4 p : Int32} {i : Nat} (hp : p = nI i) (hi : i ≤ 2) (H : post (nI (rc_L x4 i))) : wpL_at post () x4 p := by
  subst hp
  have e : (x4 >>> ((2 * nI i) &&& 31)) &&& 3 = nI (rc_L x4 i) := pk_and _ 2 (by decide)
  refine br_f (nI_pos (by omega)) (br_t (nI_le (b := 2) hi (by decide)) ?_)
  rw [e]
  exact H
theorem rc_fits {post : Int32 → Prop} {x3 y z : Int32} {sd b s : Nat} (h3 : x3 = nI sd) (hy : y = nI b) (hz : z = nI s) (hs : sd < 1024) (hb : b ≤ 4) (hs4 : s ≤ 4) (ht : rc_al sd b = true → rc_al sd (5 + s) = true → post 1) (hf : ¬ (rc_al sd b = true ∧ rc_al sd (5 + s) = true) → post 0) : wpL_fits post () x3 y z := by
  subst h3 hy hz
  have e1 := rc_sb sd hs b (by omega)
  have e2 := rc_sb5 sd hs s (by omega)
  exact br_c (fun z1 => br_c (fun z2 => ht (e1.mp z1) (e2.mp z2)) (fun z2 => hf (fun t => z2 (e2.mpr t.2)))) (fun z1 => hf (fun t => z1 (e1.mpr t.1)))
theorem rc_l506 {post : Int32 → St0 → Prop} {mc ms kc ks : Nat} {J : Int32 → Int32 → Int32 → Prop} {x0 x1 x2 x3 x4 x5 x7 x8 x9 x10 x11 x15 : Int32} {f0_rules f0_size f0_line f0_coming f0_going f0_result f0_wanted f0_found f0_later : Int32} {a1 a2 a3 a4 a5 a6 a7 a8 a9 a10 a11 a12 a13 a15 a17 a18 : Nat → Int32} {a14 a16 : Nat → Int64} {o : List Nat} {d : Nat} (h15 : x15 = nI d) (hd : d ≤ 4) (h9 : x9 = nI (rc_cd o)) (h10 : x10 = nI o.length)
    (HJ : J (nI (rc_cd (o ++ rc_dd d))) (nI (o ++ rc_dd d).length) (x11 + 1)) : wL_lawOf_506 post mc ms J x0 x1 x2 x3 x4 x5 x7 x8 x9 x10 x11 x15 kc ks f0_rules f0_size f0_line f0_coming f0_going f0_result f0_wanted f0_found f0_later a1 a2 a3 a4 a5 a6 a7 a8 a9 a10 a11 a12 a13 a14 a15 a16 a17 a18 := by
  subst h15 h9 h10
  by_cases z : 4 ≤ d
  · have E : rc_dd d = [] := if_neg (by omega)
    rw [E, List.append_nil] at HJ
    have c : (4 : Int32) ≤ nI d := nI_le (a := 4) z (by omega)
    exact br_t c (br_t c (nm_e HJ))
  · have E : rc_dd d = [d] := if_pos (by omega)
    rw [E, rc_cd_snoc, List.length_append] at HJ
    have c : ¬ (4 : Int32) ≤ nI d := nI_ge (b := 4) (by omega) (by decide)
    exact br_f c (nm_r (rc_step4 _ _) (br_f c (nm_r (nI_1 _) (nm_e HJ))))
theorem rc_l490 {post : Int32 → St0 → Prop} {mc ms kc ks : Nat} {J : Int32 → Int32 → Int32 → Prop} {x0 x1 x2 x3 x4 x5 x7 x8 x9 x10 x11 x15 x17 : Int32} {f0_rules f0_size f0_line f0_coming f0_going f0_result f0_wanted f0_found f0_later : Int32} {a1 a2 a3 a4 a5 a6 a7 a8 a9 a10 a11 a12 a13 a15 a17 a18 : Nat → Int32} {a14 a16 : Nat → Int64} {o : List Nat} {d : Nat} (h17 : (x17 = 0 ∧ x15 = nI d) ∨ (x17 = 1 ∧ ∃ kd, kd < 3 ∧ x0 = nI kd ∧ (kd = 0 → x2 = nI d) ∧ (kd ≠ 0 → d = 4))) (hd : d ≤ 4) (h9 : x9 = nI (rc_cd o)) (h10 : x10 = nI o.length)
    (HJ : J (nI (rc_cd (o ++ rc_dd d))) (nI (o ++ rc_dd d).length) (x11 + 1)) : wL_lawOf_490 post mc ms J x0 x1 x2 x3 x4 x5 x7 x8 x9 x10 x11 x15 x17 kc ks f0_rules f0_size f0_line f0_coming f0_going f0_result f0_wanted f0_found f0_later a1 a2 a3 a4 a5 a6 a7 a8 a9 a10 a11 a12 a13 a14 a15 a16 a17 a18 := by
  rcases h17 with ⟨e, h15⟩ | ⟨e, kd, k1, k2, k3, k4⟩
  · exact br_t e (rc_l506 h15 hd h9 h10 HJ)
  · exact br_f (by rw [e]; decide) (pk_eq kd 0 (fun z => rc_l506 (k3 z) hd h9 h10 HJ) (fun z => rc_l506 (by rw [k4 z]; rfl) hd h9 h10 HJ) k2)
theorem rc_l467 {post : Int32 → St0 → Prop} {mc ms kc ks : Nat} {J : Int32 → Int32 → Int32 → Prop} {x0 x1 x2 x3 x4 x5 x7 x8 x9 x10 x11 x15 x16 x17 : Int32} {f0_rules f0_size f0_line f0_coming f0_going f0_result f0_wanted f0_found f0_later : Int32} {a1 a2 a3 a4 a5 a6 a7 a8 a9 a10 a11 a12 a13 a15 a17 a18 : Nat → Int32} {a14 a16 : Nat → Int64} {o pre : List Nat} {it d : Nat} (h16 : (x16 = 0 ∧ pre = []) ∨ (x16 = 1 ∧ x2 = nI it ∧ pre = [it])) (h17 : (x17 = 0 ∧ x15 = nI d) ∨ (x17 = 1 ∧ ∃ kd, kd < 3 ∧ x0 = nI kd ∧ (kd = 0 → x2 = nI d) ∧ (kd ≠ 0 → d = 4))) (hd : d ≤ 4) (h9 : x9 = nI (rc_cd o)) (h10 : x10 = nI o.length)
    (HJ : J (nI (rc_cd (o ++ pre ++ rc_dd d))) (nI (o ++ pre ++ rc_dd d).length) (x11 + 1)) : wL_lawOf_467 post mc ms J x0 x1 x2 x3 x4 x5 x7 x8 x9 x10 x11 x15 x16 x17 kc ks f0_rules f0_size f0_line f0_coming f0_going f0_result f0_wanted f0_found f0_later a1 a2 a3 a4 a5 a6 a7 a8 a9 a10 a11 a12 a13 a14 a15 a16 a17 a18 := by
  rcases h16 with ⟨e, ep⟩ | ⟨e, h2, ep⟩
  · rw [ep, List.append_nil] at HJ
    exact br_t e (br_t e (rc_l490 h17 hd h9 h10 HJ))
  · have c : ¬ x16 = 0 := by rw [e]; decide
    refine br_f c (nm_r (e' := nI (rc_cd (o ++ pre))) ?_ (br_f c (nm_r (e' := nI (o ++ pre).length) ?_ (rc_l490 h17 hd rfl rfl HJ))))
    · rw [h9, h2, ep, rc_cd_snoc, rc_step4]
    · rw [h10, ep, nI_1, List.length_append]
      rfl
theorem rc_l433 {post : Int32 → St0 → Prop} {mc ms kc ks : Nat} {J : Int32 → Int32 → Int32 → Prop} {x0 x1 x2 x3 x4 x5 x7 x8 x9 x10 x11 x12 x13 x14 x15 x16 : Int32} {f0_rules f0_size f0_line f0_coming f0_going f0_result f0_wanted f0_found f0_later : Int32} {a1 a2 a3 a4 a5 a6 a7 a8 a9 a10 a11 a12 a13 a15 a17 a18 : Nat → Int32} {a14 a16 : Nat → Int64} {o pre : List Nat} {R kd fr it sd bf he be : Nat} (hA : rc_A R kd fr it sd x0 x1 x2 x3) (h7 : x7 = nI R) (h12 : x12 = nI bf) (h13 : x13 = nI he) (h14 : x14 = nI be) (h15 : x15 = nI he) (hbf : bf ≤ 4) (hhe : he ≤ 4) (hbe : be ≤ 4)
    (h16 : (x16 = 0 ∧ pre = []) ∨ (x16 = 1 ∧ x2 = nI it ∧ pre = [it])) (h9 : x9 = nI (rc_cd o)) (h10 : x10 = nI o.length)
    (HJ : J (nI (rc_cd (o ++ pre ++ rc_dd (if R = 1 ∧ kd < 2 ∧ he = fr ∧ rc_al sd bf = true ∧ rc_al sd (5 + be) = true then (if kd = 0 then it else 4) else he)))) (nI (o ++ pre ++ rc_dd (if R = 1 ∧ kd < 2 ∧ he = fr ∧ rc_al sd bf = true ∧ rc_al sd (5 + be) = true then (if kd = 0 then it else 4) else he)).length) (x11 + 1)) :
    wL_lawOf_433 post mc ms J x0 x1 x2 x3 x4 x5 x7 x8 x9 x10 x11 x12 x13 x14 x15 x16 kc ks f0_rules f0_size f0_line f0_coming f0_going f0_result f0_wanted f0_found f0_later a1 a2 a3 a4 a5 a6 a7 a8 a9 a10 a11 a12 a13 a14 a15 a16 a17 a18 := by
  have plain : ¬ (R = 1 ∧ kd < 2 ∧ he = fr ∧ rc_al sd bf = true ∧ rc_al sd (5 + be) = true) → wL_lawOf_467 post mc ms J x0 x1 x2 x3 x4 x5 x7 x8 x9 x10 x11 x15 x16 0 kc ks f0_rules f0_size f0_line f0_coming f0_going f0_result f0_wanted f0_found f0_later a1 a2 a3 a4 a5 a6 a7 a8 a9 a10 a11 a12 a13 a14 a15 a16 a17 a18 := by
    intro hn
    rw [if_neg hn] at HJ
    exact rc_l467 h16 (Or.inl ⟨rfl, h15⟩) hhe h9 h10 HJ
  rcases hA with e | ⟨e, g1, g2, g3, g4, g5, g6, g7, g8, g9, g10⟩
  · exact br_t (by rw [h7, e]; rfl) (plain (fun z => absurd z.1 (by omega)))
  · refine br_f (by rw [h7, e]; decide) (pk_le 2 kd (fun z => plain (fun t => absurd t.2.1 (by omega))) (fun z => pk_eq he fr (fun ef => rc_fits g9 h12 h14 g10 hbf hbe (fun t1 t2 => br_f (by decide) ?_) (fun t => br_t rfl (plain (fun u => t u.2.2.2)))) (fun nf => plain (fun t => nf t.2.2.1)) h13 (g3 (by omega))) rfl g1)
    rw [if_pos ⟨e, z, ef, t1, t2⟩] at HJ
    refine rc_l467 h16 (Or.inr ⟨rfl, kd, g2, g1, fun k0 => ?_, fun k0 => ?_⟩) ?_ h9 h10 HJ
    · rw [if_pos k0]
      exact g5 (by omega)
    · rw [if_neg k0]
    · split <;> omega
theorem rc_iter {post : Int32 → St0 → Prop} {mc ms kc ks n : Nat} {x0 x1 x2 x3 x4 x5 x7 x8 x9 x10 x11 : Int32} {f0_rules f0_size f0_line f0_coming f0_going f0_result f0_wanted f0_found f0_later : Int32} {a1 a2 a3 a4 a5 a6 a7 a8 a9 a10 a11 a12 a13 a15 a17 a18 : Nat → Int32} {a14 a16 : Nat → Int64} {o : List Nat} {R kd fr it sd bf he be : Nat} (hA : rc_A R kd fr it sd x0 x1 x2 x3) (h7 : x7 = nI R) (hbf : bf ≤ 4) (hhe : he ≤ 4) (hbe : be ≤ 4)
    (hx : ¬ 4 ≤ x11) (t1 : ∀ P : Int32 → Prop, P (nI bf) → wpL_at P () x4 (x11 - 1)) (t2 : ∀ P : Int32 → Prop, P (nI he) → wpL_at P () x4 x11) (t3 : ∀ P : Int32 → Prop, P (nI be) → wpL_at P () x4 (x11 + 1))
    (h9 : x9 = nI (rc_cd o)) (h10 : x10 = nI o.length)
    (HJ : wL_lawOf_366 post mc ms x0 x1 x2 x3 x4 x5 x7 x8 kc ks f0_rules f0_size f0_line f0_coming f0_going f0_result f0_wanted f0_found f0_later a1 a2 a3 a4 a5 a6 a7 a8 a9 a10 a11 a12 a13 a14 a15 a16 a17 a18 n (nI (rc_cd (o ++ rc_E R kd fr it sd bf he be))) (nI (o ++ rc_E R kd fr it sd bf he be).length) (x11 + 1)) :
    wL_lawOf_366 post mc ms x0 x1 x2 x3 x4 x5 x7 x8 kc ks f0_rules f0_size f0_line f0_coming f0_going f0_result f0_wanted f0_found f0_later a1 a2 a3 a4 a5 a6 a7 a8 a9 a10 a11 a12 a13 a14 a15 a16 a17 a18 (n + 1) x9 x10 x11 := by
  rw [rc_E, ← List.append_assoc] at HJ
  have plain : ¬ (R = 1 ∧ kd = 2 ∧ rc_al sd bf = true ∧ rc_al sd (5 + he) = true) → wL_lawOf_433 post mc ms (wL_lawOf_366 post mc ms x0 x1 x2 x3 x4 x5 x7 x8 kc ks f0_rules f0_size f0_line f0_coming f0_going f0_result f0_wanted f0_found f0_later a1 a2 a3 a4 a5 a6 a7 a8 a9 a10 a11 a12 a13 a14 a15 a16 a17 a18 n) x0 x1 x2 x3 x4 x5 x7 x8 x9 x10 x11 (nI bf) (nI he) (nI be) (nI he) 0 kc ks f0_rules f0_size f0_line f0_coming f0_going f0_result f0_wanted f0_found f0_later a1 a2 a3 a4 a5 a6 a7 a8 a9 a10 a11 a12 a13 a14 a15 a16 a17 a18 := by
    intro hn
    rw [if_neg hn] at HJ
    exact rc_l433 hA h7 rfl rfl rfl rfl hbf hhe hbe (Or.inl ⟨rfl, rfl⟩) h9 h10 HJ
  refine br_f hx (t1 _ (t2 _ (t3 _ ?_)))
  have hA' := hA
  rcases hA with e | ⟨e, g1, g2, g3, g4, g5, g6, g7, g8, g9, g10⟩
  · exact br_t (by rw [h7, e]; rfl) (plain (fun z => absurd z.1 (by omega)))
  · refine br_f (by rw [h7, e]; decide) (pk_eq kd 2 (fun e2 => rc_fits g9 rfl rfl g10 hbf hhe (fun s1 s2 => br_f (by decide) ?_) (fun t => br_t rfl (plain (fun u => t u.2.2)))) (fun n2 => plain (fun t => n2 t.2.1)) g1)
    rw [if_pos ⟨e, e2, s1, s2⟩] at HJ
    exact rc_l433 hA' h7 rfl rfl rfl rfl hbf hhe hbe (Or.inr ⟨rfl, g5 (by omega), rfl⟩) h9 h10 HJ
end
section
theorem rc_letterX {post : Int32 → St2 → Prop} {f0_rules f0_size f0_line f0_coming f0_going f0_result f0_wanted f0_found f0_later : Int32} {a1 a2 a3 a4 a5 a6 a7 a8 a9 a10 a11 a12 a13 a15 a17 a18 : Nat → Int32} {a14 a16 : Nat → Int64} {R kd fr it lf rt p : Nat} {w o : List Nat} {x : Int32} (hx : x = nI p) (hp : p < 8) (hP : rc_P R kd fr it lf rt w f0_rules f0_size a1 a2 a3 a4 a5 a6) (hb : (R + 1) * w.length + 2 ≤ 12) (ho : rc_run R kd fr it lf rt 4 5 (w ++ [4]) = o) (hol : o.length ≤ 8)
    (H : ∀ {f0_rules' f0_size' f0_line' f0_coming' f0_going' f0_result' f0_wanted' f0_found' f0_later' : Int32} {a1' a2' a3' a4' a5' a6' a7' a8' a9' a10' a11' a12' a13' a15' a17' a18' : Nat → Int32} {a14' a16' : Nat → Int64}, rc_P R kd fr it lf rt w f0_rules' f0_size' a1' a2' a3' a4' a5' a6' → post (if p < o.length then nI (o.getD p 0) else -4) (f0_rules', f0_size', f0_line', f0_coming', f0_going', f0_result', f0_wanted', f0_found', f0_later', a1', a2', a3', a4', a5', a6', a7', a8', a9', a10', a11', a12', a13', a14', a15', a16', a17', a18')) : wpX_letter post (f0_rules, f0_size, f0_line, f0_coming, f0_going, f0_result, f0_wanted, f0_found, f0_later, a1, a2, a3, a4, a5, a6, a7, a8, a9, a10, a11, a12, a13, a14, a15, a16, a17, a18) x := by
  by_cases z : p < o.length
  · rw [if_pos z] at H
    exact rc_letterG hx hP hb ho z (by omega) H
  · rw [if_neg z] at H
    exact rc_letterB hx (by omega) hP hb ho (by omega) H
theorem rc_idle06 {post : Int32 → St2 → Prop} {f0_rules f0_size f0_line f0_coming f0_going f0_result f0_wanted f0_found f0_later : Int32} {a1 a2 a3 a4 a5 a6 a7 a8 a9 a10 a11 a12 a13 a15 a17 a18 : Nat → Int32} {a14 a16 : Nat → Int64} {R kd fr it lf rt : Nat} {w : List Nat} (hP : rc_P R kd fr it lf rt w f0_rules f0_size a1 a2 a3 a4 a5 a6)
    (H : ∀ {f0_rules' f0_size' f0_line' f0_coming' f0_going' f0_result' f0_wanted' f0_found' f0_later' : Int32} {a1' a2' a3' a4' a5' a6' a7' a8' a9' a10' a11' a12' a13' a15' a17' a18' : Nat → Int32} {a14' a16' : Nat → Int64}, rc_P R kd fr it lf rt w f0_rules' f0_size' a1' a2' a3' a4' a5' a6' → post (if R = 0 then -4 else -1) (f0_rules', f0_size', f0_line', f0_coming', f0_going', f0_result', f0_wanted', f0_found', f0_later', a1', a2', a3', a4', a5', a6', a7', a8', a9', a10', a11', a12', a13', a14', a15', a16', a17', a18')) : wpX_idle post (f0_rules, f0_size, f0_line, f0_coming, f0_going, f0_result, f0_wanted, f0_found, f0_later, a1, a2, a3, a4, a5, a6, a7, a8, a9, a10, a11, a12, a13, a14, a15, a16, a17, a18) 0 6 := by
  have hR : R = 0 ∨ R = 1 := by have := hP.2.1; omega
  rcases hR with e | e
  · subst e
    exact rc_idleN (i := 0) rfl (by decide) (by decide) hP H
  · subst e
    exact rc_idle6 hP H
theorem rc_l846 {post : Int32 → St0 → Prop} {mc ms kc ks : Nat} {z0 z1 : Int32} {f0_rules f0_size f0_line f0_coming f0_going f0_result f0_wanted f0_found f0_later : Int32} {a1 a2 a3 a4 a5 a6 a7 a8 a9 a10 a11 a12 a13 a15 a17 a18 : Nat → Int32} {a14 a16 : Nat → Int64} {kd fr it lf rt : Nat} (hz : z1 = z0) (hP : rc_P 0 kd fr it lf rt [] f0_rules f0_size a1 a2 a3 a4 a5 a6) (H : post 1 ()) : wL_lawOf_846 post mc ms z0 z1 kc ks f0_rules f0_size f0_line f0_coming f0_going f0_result f0_wanted f0_found f0_later a1 a2 a3 a4 a5 a6 a7 a8 a9 a10 a11 a12 a13 a14 a15 a16 a17 a18 :=
  br_t hz (rc_images (n := 1) rfl (by decide) (by decide) (fun i hi => rc_run0 _ 4 5 (rc_dl_dig i 1)) hP (fun hP => br_t rfl (rc_still (n := 1) rfl (by decide) (by decide) (fun i hi => rc_run0 _ 4 5 (rc_dl_dig i 1)) hP (fun hP => br_t rfl H))))
theorem rc_l775 {post : Int32 → St0 → Prop} {mc ms kc ks : Nat} {x7 x9 x10 : Int32} {f0_rules f0_size f0_line f0_coming f0_going f0_result f0_wanted f0_found f0_later : Int32} {a1 a2 a3 a4 a5 a6 a7 a8 a9 a10 a11 a12 a13 a15 a17 a18 : Nat → Int32} {a14 a16 : Nat → Int64} {R kd fr it lf rt : Nat} {w o : List Nat} (h7 : x7 = nI R) (h9 : x9 = nI (rc_cd o)) (h10 : x10 = nI o.length) (hb : (R + 1) * w.length + 2 ≤ 12) (ho : rc_run R kd fr it lf rt 4 5 (w ++ [4]) = o) (hol : o.length ≤ 8) (hP : rc_P R kd fr it lf rt w f0_rules f0_size a1 a2 a3 a4 a5 a6) (H : post 1 ()) : wL_lawOf_775 post mc ms x7 x9 x10 kc ks f0_rules f0_size f0_line f0_coming f0_going f0_result f0_wanted f0_found f0_later a1 a2 a3 a4 a5 a6 a7 a8 a9 a10 a11 a12 a13 a14 a15 a16 a17 a18 := by
  subst h7 h9 h10
  have hR : R = 0 ∨ R = 1 := by have := hP.2.1; omega
  refine rc_apply hP hb ho (by omega) (fun hP => br_t rfl (rc_after0 hP (by omega) (fun hP => br_t rfl (rc_clear hP (fun hP => br_t rfl (rc_after0 hP (by decide) (fun hP => br_t rfl (rc_dropN (i := 1) rfl hP.2.1 (by decide) hP (fun hP => br_t rfl ?_)))))))))
  rcases hR with e | e
  · subst e
    exact rc_dropN (i := 0) rfl (by decide) (by decide) hP (fun hP => br_t rfl (rc_l846 rfl hP H))
  · subst e
    exact rc_drop1 hP (fun hP => br_f (by decide) (rc_l846 rfl hP H))
theorem rc_l658 {post : Int32 → St0 → Prop} {mc ms kc ks : Nat} {x0 x7 x9 x10 x11 x12 z0 : Int32} {f0_rules f0_size f0_line f0_coming f0_going f0_result f0_wanted f0_found f0_later : Int32} {a1 a2 a3 a4 a5 a6 a7 a8 a9 a10 a11 a12 a13 a15 a17 a18 : Nat → Int32} {a14 a16 : Nat → Int64} {R kd fr it lf rt p : Nat} {w o : List Nat} (h0 : R = 1 → x0 = nI kd ∧ kd < 3) (h7 : x7 = nI R) (h9 : x9 = nI (rc_cd o)) (h10 : x10 = nI o.length) (h11 : x11 = nI p) (hp : p < 8) (h12 : x12 = if p < o.length then nI (o.getD p 0) else -4) (hz : z0 = if R = 0 then -4 else -1) (hb : (R + 1) * w.length + 2 ≤ 12) (ho : rc_run R kd fr it lf rt 4 5 (w ++ [4]) = o) (hol : o.length ≤ 8) (hP : rc_P R kd fr it lf rt w f0_rules f0_size a1 a2 a3 a4 a5 a6) (H : post 1 ()) : wL_lawOf_658 post mc ms x0 x7 x9 x10 x11 x12 z0 kc ks f0_rules f0_size f0_line f0_coming f0_going f0_result f0_wanted f0_found f0_later a1 a2 a3 a4 a5 a6 a7 a8 a9 a10 a11 a12 a13 a14 a15 a16 a17 a18 := by
  have hR : R = 0 ∨ R = 1 := by have := hP.2.1; omega
  refine rc_letterX h11 hp hP hb ho hol (fun hP => br_t h12.symm (rc_swap hP (fun hP => br_t rfl (rc_commute hP (fun hP => br_t rfl (rc_idle06 hP (fun hP => br_t hz.symm (rc_idleN (i := 1) rfl hP.2.1 (by decide) hP (fun hP => br_t rfl (rc_idleM hP (fun hP => br_t rfl ?_)))))))))))
  rcases hR with e | e
  · subst e
    exact br_t h7 (rc_l775 h7 h9 h10 hb ho hol hP H)
  · subst e
    refine br_f (by rw [h7]; decide) (pk_le 2 kd (fun z => rc_l775 h7 h9 h10 hb ho hol hP H) (fun z => ?_) rfl (h0 rfl).1 (by decide) (by have := (h0 rfl).2; omega))
    exact rc_images (n := 0) rfl (by decide) (by decide) (fun i hi => rc_run1 z) hP (fun hP => br_t rfl (rc_still (n := 0) rfl (by decide) (by decide) (fun i hi => rc_run1 z) hP (fun hP => br_t rfl (rc_idle0 z hP (fun hP => br_t rfl (rc_l775 h7 h9 h10 hb ho hol hP H))))))
theorem rc_l645 {post : Int32 → St0 → Prop} {mc ms kc ks : Nat} {x0 x7 x9 x10 x11 x12 : Int32} {f0_rules f0_size f0_line f0_coming f0_going f0_result f0_wanted f0_found f0_later : Int32} {a1 a2 a3 a4 a5 a6 a7 a8 a9 a10 a11 a12 a13 a15 a17 a18 : Nat → Int32} {a14 a16 : Nat → Int64} {R kd fr it lf rt p : Nat} {w o : List Nat} (h0 : R = 1 → x0 = nI kd ∧ kd < 3) (h7 : x7 = nI R) (h9 : x9 = nI (rc_cd o)) (h10 : x10 = nI o.length) (h11 : x11 = nI p) (hp : p < 8) (h12 : x12 = if p < o.length then nI (o.getD p 0) else -4) (hb : (R + 1) * w.length + 2 ≤ 12) (ho : rc_run R kd fr it lf rt 4 5 (w ++ [4]) = o) (hol : o.length ≤ 8) (hP : rc_P R kd fr it lf rt w f0_rules f0_size a1 a2 a3 a4 a5 a6) (H : post 1 ()) : wL_lawOf_645 post mc ms x0 x7 x9 x10 x11 x12 kc ks f0_rules f0_size f0_line f0_coming f0_going f0_result f0_wanted f0_found f0_later a1 a2 a3 a4 a5 a6 a7 a8 a9 a10 a11 a12 a13 a14 a15 a16 a17 a18 := by
  have hR : R = 0 ∨ R = 1 := by have := hP.2.1; omega
  rcases hR with e | e
  · subst e
    exact br_t h7 (rc_l658 h0 h7 h9 h10 h11 hp h12 rfl hb ho hol hP H)
  · subst e
    exact br_f (by rw [h7]; decide) (rc_l658 h0 h7 h9 h10 h11 hp h12 rfl hb ho hol hP H)
theorem rc_dgy : ∀ k, k < 16 → (((2 * nI k) &&& 31 : Int32).toBitVec.smod 32).toNat = 2 * k := by decide
theorem rc_dgt {o : List Nat} {p : Nat} (hd : rc_dig o) (hp : p < o.length) (hl : o.length ≤ 8) : (nI (rc_cd o) >>> ((2 * ((nI o.length - 1) - nI p)) &&& 31)) &&& 3 = nI (o.getD p 0) := by
  have hlt := rc_cd_lt hd
  have h8 : 4 ^ o.length ≤ 4 ^ 8 := Nat.pow_le_pow_right (by decide) hl
  have h8' : (4 : Nat) ^ 8 = 65536 := by decide
  have h1 : rc_cd o / 2 ^ (2 * (o.length - 1 - p)) ≤ rc_cd o := Nat.div_le_self _ _
  have e1 : nI o.length - 1 = nI (o.length - 1) := pk_sub (b := 1) (by omega)
  rw [e1, pk_sub (by omega), pk_shrN (by omega) _ (2 * (o.length - 1 - p)) (rc_dgy _ (by omega)), pk_andN (by omega) 2 (by decide), Nat.pow_mul]
  exact congrArg nI (rc_cd_at o 1 p hd hp)
theorem rc_l564 {post : Int32 → St0 → Prop} {mc ms kc ks : Nat} {x0 x5 x7 x9 x10 z0 z1 : Int32} {f0_rules f0_size f0_line f0_coming f0_going f0_result f0_wanted f0_found f0_later : Int32} {a1 a2 a3 a4 a5 a6 a7 a8 a9 a10 a11 a12 a13 a15 a17 a18 : Nat → Int32} {a14 a16 : Nat → Int64} {R kd fr it lf rt : Nat} {w o : List Nat} (hz : z1 = z0) (h0 : R = 1 → x0 = nI kd ∧ kd < 3) (h7 : x7 = nI R) (h9 : x9 = nI (rc_cd o)) (h10 : x10 = nI o.length) (hod : rc_dig o) (hb : (R + 1) * w.length + 2 ≤ 12) (ho : rc_run R kd fr it lf rt 4 5 (w ++ [4]) = o) (hol : o.length ≤ 8) (hP : rc_P R kd fr it lf rt w f0_rules f0_size a1 a2 a3 a4 a5 a6) (H : post 1 ()) : wL_lawOf_564 post mc ms x0 x5 x7 x9 x10 z0 z1 kc ks f0_rules f0_size f0_line f0_coming f0_going f0_result f0_wanted f0_found f0_later a1 a2 a3 a4 a5 a6 a7 a8 a9 a10 a11 a12 a13 a14 a15 a16 a17 a18 := by
  have hR := hP.2.1
  obtain ⟨p, hp, ep⟩ := pk_andE x5 3 (m := 7) (by decide)
  have hp8 : p < 8 := hp
  refine br_t hz (rc_afterM hP (fun hP => br_t rfl (rc_afterB (i := 2) rfl (by omega) (by decide) hP (fun hP => br_t rfl (rc_letterB h10 (by omega) hP hb ho (Nat.le_refl _) (fun hP => br_t rfl (rc_letterM hP hb ho (fun hP => br_t rfl (nm_r ep (pk_le o.length p (fun z => rc_l645 h0 h7 h9 h10 rfl hp8 (if_neg (by omega)).symm hb ho hol hP H) (fun z => rc_l645 h0 h7 h9 h10 rfl hp8 ?_ hb ho hol hP H) h10))))))))))
  rw [if_pos z, h9, h10]
  exact rc_dgt hod z hol
theorem rc_exit {post : Int32 → St0 → Prop} {mc ms kc ks n : Nat} {x0 x1 x2 x3 x4 x5 x7 x8 x9 x10 x11 : Int32} {f0_rules f0_size f0_line f0_coming f0_going f0_result f0_wanted f0_found f0_later : Int32} {a1 a2 a3 a4 a5 a6 a7 a8 a9 a10 a11 a12 a13 a15 a17 a18 : Nat → Int32} {a14 a16 : Nat → Int64} {R kd fr it lf rt : Nat} {w o : List Nat} (hx : 4 ≤ x11) (h8 : x8 = nI (rc_cd w)) (h0 : R = 1 → x0 = nI kd ∧ kd < 3) (h7 : x7 = nI R) (h9 : x9 = nI (rc_cd o)) (h10 : x10 = nI o.length) (hod : rc_dig o) (hw : w.length = 3) (ho : rc_run R kd fr it lf rt 4 5 (w ++ [4]) = o) (hol : o.length ≤ 8) (hP : rc_P R kd fr it lf rt w f0_rules f0_size a1 a2 a3 a4 a5 a6) (H : post 1 ()) : wL_lawOf_366 post mc ms x0 x1 x2 x3 x4 x5 x7 x8 kc ks f0_rules f0_size f0_line f0_coming f0_going f0_result f0_wanted f0_found f0_later a1 a2 a3 a4 a5 a6 a7 a8 a9 a10 a11 a12 a13 a14 a15 a16 a17 a18 (n + 1) x9 x10 x11 := by
  have hR : R = 0 ∨ R = 1 := by have := hP.2.1; omega
  refine br_t hx (rc_after0 hP (by omega) (fun hP => br_t h8.symm ?_))
  rcases hR with e | e
  · subst e
    exact rc_afterB (i := 1) rfl (by decide) (by decide) hP (fun hP => br_t h7 (rc_l564 rfl h0 h7 h9 h10 hod (by omega) ho hol hP H))
  · subst e
    exact rc_after1 hP (by omega) ho (by omega) (fun hP => br_f (by rw [h7]; decide) (rc_l564 h9.symm h0 h7 h9 h10 hod (by omega) ho hol hP H))
theorem rc_l366 {post : Int32 → St0 → Prop} {mc ms kc ks : Nat} {x0 x1 x2 x3 x4 x5 x7 x8 : Int32} {f0_rules f0_size f0_line f0_coming f0_going f0_result f0_wanted f0_found f0_later : Int32} {a1 a2 a3 a4 a5 a6 a7 a8 a9 a10 a11 a12 a13 a15 a17 a18 : Nat → Int32} {a14 a16 : Nat → Int64} {R kd fr it sd : Nat} (hA : rc_A R kd fr it sd x0 x1 x2 x3) (h7 : x7 = nI R) (h8 : x8 = nI (rc_cd [rc_L x4 0, rc_L x4 1, rc_L x4 2])) (hP : rc_P R kd fr it (sd % 32) (sd / 32) [rc_L x4 0, rc_L x4 1, rc_L x4 2] f0_rules f0_size a1 a2 a3 a4 a5 a6) (H : post 1 ()) : wL_lawOf_366 post mc ms x0 x1 x2 x3 x4 x5 x7 x8 kc ks f0_rules f0_size f0_line f0_coming f0_going f0_result f0_wanted f0_found f0_later a1 a2 a3 a4 a5 a6 a7 a8 a9 a10 a11 a12 a13 a14 a15 a16 a17 a18 5 1 0 0 := by
  have l0 := rc_L4 x4 0
  have l1 := rc_L4 x4 1
  have l2 := rc_L4 x4 2
  have h0 : R = 1 → x0 = nI kd ∧ kd < 3 := by
    intro e
    rcases hA with z | ⟨_, g⟩
    · omega
    · exact ⟨g.1, g.2.1⟩
  have ho : rc_run R kd fr it (sd % 32) (sd / 32) 4 5 ([rc_L x4 0, rc_L x4 1, rc_L x4 2] ++ [4]) = [] ++ rc_E R kd fr it sd 4 (rc_L x4 0) (rc_L x4 1) ++ rc_E R kd fr it sd (rc_L x4 0) (rc_L x4 1) (rc_L x4 2) ++ rc_E R kd fr it sd (rc_L x4 1) (rc_L x4 2) 4 ++ rc_E R kd fr it sd (rc_L x4 2) 4 4 := by
    rw [List.nil_append]
    rcases hA with e | ⟨e, g1, g2, g3, g4, g5, g6, g7, g8, g9, g10⟩
    · subst e
      rw [rc_law0 l0 l1 l2]
      exact rc_run0 _ 4 5 hP.2.2.2.2.1
    · subst e
      exact rc_law1 g2 g7 g8 g10 l0 l1 l2
  have hod : rc_dig (rc_run R kd fr it (sd % 32) (sd / 32) 4 5 ([rc_L x4 0, rc_L x4 1, rc_L x4 2] ++ [4])) := by
    rcases hA with e | ⟨e, g1, g2, g3, g4, g5, g6, g7, g8, g9, g10⟩
    · subst e
      rw [rc_run0 _ 4 5 hP.2.2.2.2.1]
      exact hP.2.2.2.2.1
    · refine rc_run_dig g8 _ 4 5 (Or.inr rfl) (fun s hs => ?_)
      rcases List.mem_append.mp hs with z | z
      · exact Nat.le_of_lt (hP.2.2.2.2.1 s z)
      · have : s = 4 := by simpa using z
        omega
  have hol : (rc_run R kd fr it (sd % 32) (sd / 32) 4 5 ([rc_L x4 0, rc_L x4 1, rc_L x4 2] ++ [4])).length ≤ 8 := by
    have t := rc_run_len (l := R) (kd := kd) (fr := fr) (it := it) (lf := sd % 32) (rt := sd / 32) ([rc_L x4 0, rc_L x4 1, rc_L x4 2] ++ [4]) 4 5
    have e : ([rc_L x4 0, rc_L x4 1, rc_L x4 2] ++ [4]).length = 4 := rfl
    rw [e] at t
    have := hP.2.1
    omega
  rw [ho] at hod hol
  refine rc_iter (o := []) (bf := 4) (he := rc_L x4 0) (be := rc_L x4 1) hA h7 (by decide) (by omega) (by omega) (by decide) (fun P h => br_t (by decide) h) (fun P h => rc_at (i := 0) rfl (by decide) h) (fun P h => rc_at (i := 1) rfl (by decide) h) rfl rfl ?_
  refine rc_iter (bf := rc_L x4 0) (he := rc_L x4 1) (be := rc_L x4 2) hA h7 (by omega) (by omega) (by omega) (by decide) (fun P h => rc_at (i := 0) rfl (by decide) h) (fun P h => rc_at (i := 1) rfl (by decide) h) (fun P h => rc_at (i := 2) rfl (by decide) h) rfl rfl ?_
  refine rc_iter (bf := rc_L x4 1) (he := rc_L x4 2) (be := 4) hA h7 (by omega) (by omega) (by decide) (by decide) (fun P h => rc_at (i := 1) rfl (by decide) h) (fun P h => rc_at (i := 2) rfl (by decide) h) (fun P h => br_f (by decide) (br_f (by decide) h)) rfl rfl ?_
  refine rc_iter (bf := rc_L x4 2) (he := 4) (be := 4) hA h7 (by omega) (by decide) (by decide) (by decide) (fun P h => rc_at (i := 2) rfl (by decide) h) (fun P h => br_f (by decide) (br_f (by decide) h)) (fun P h => br_f (by decide) (br_f (by decide) h)) rfl rfl ?_
  exact rc_exit (by decide) h8 h0 h7 rfl rfl hod rfl ho hol hP H
theorem rc_l317 {post : Int32 → St0 → Prop} {mc ms kc ks : Nat} {x0 x1 x2 x3 x4 x5 x7 : Int32} {f0_rules f0_size f0_line f0_coming f0_going f0_result f0_wanted f0_found f0_later : Int32} {a1 a2 a3 a4 a5 a6 a7 a8 a9 a10 a11 a12 a13 a15 a17 a18 : Nat → Int32} {a14 a16 : Nat → Int64} {R kd fr it sd : Nat} (hA : rc_A R kd fr it sd x0 x1 x2 x3) (h7 : x7 = nI R) (hP : rc_P R kd fr it (sd % 32) (sd / 32) [] f0_rules f0_size a1 a2 a3 a4 a5 a6) (H : post 1 ()) : wL_lawOf_317 post mc ms x0 x1 x2 x3 x4 x5 x7 1 0 kc ks 4 1 0 f0_rules f0_size f0_line f0_coming f0_going f0_result f0_wanted f0_found f0_later a1 a2 a3 a4 a5 a6 a7 a8 a9 a10 a11 a12 a13 a14 a15 a16 a17 a18 := by
  refine br_f (by decide) (rc_at (i := 0) rfl (by decide) (rc_push rfl (rc_L4 x4 0) (by decide) hP (fun hP => br_t rfl (nm_r (e' := nI (rc_cd [rc_L x4 0])) (rc_step4 1 _) (nm_e ?_)))))
  refine br_f (by decide) (rc_at (i := 1) rfl (by decide) (rc_push rfl (rc_L4 x4 1) (by simp) hP (fun hP => br_t rfl (nm_r (e' := nI (rc_cd [rc_L x4 0, rc_L x4 1])) (rc_step4 _ _) (nm_e ?_)))))
  refine br_f (by decide) (rc_at (i := 2) rfl (by decide) (rc_push rfl (rc_L4 x4 2) (by simp) hP (fun hP => br_t rfl (nm_r (e' := nI (rc_cd [rc_L x4 0, rc_L x4 1, rc_L x4 2])) (rc_step4 _ _) (nm_e ?_)))))
  exact br_t (by decide) ⟨5, rc_l366 hA h7 rfl hP H⟩
theorem rc_l237 {post : Int32 → St0 → Prop} {mc ms kc ks : Nat} {x0 x1 x2 x3 x4 x5 x7 z0 z1 : Int32} {f0_rules f0_size f0_line f0_coming f0_going f0_result f0_wanted f0_found f0_later : Int32} {a1 a2 a3 a4 a5 a6 a7 a8 a9 a10 a11 a12 a13 a15 a17 a18 : Nat → Int32} {a14 a16 : Nat → Int64} {R kd fr it sd : Nat} (hz : z1 = z0) (hA : rc_A R kd fr it sd x0 x1 x2 x3) (h7 : x7 = nI R) (hP : rc_P R kd fr it (sd % 32) (sd / 32) [] f0_rules f0_size a1 a2 a3 a4 a5 a6) (H : post 1 ()) : wL_lawOf_237 post mc ms x0 x1 x2 x3 x4 x5 x7 z0 z1 kc ks f0_rules f0_size f0_line f0_coming f0_going f0_result f0_wanted f0_found f0_later a1 a2 a3 a4 a5 a6 a7 a8 a9 a10 a11 a12 a13 a14 a15 a16 a17 a18 :=
  br_t hz (rc_push4 hP (fun hP => br_t rfl (rc_pushM hP (fun hP => br_t rfl (rc_images6 hP (fun hP => br_t rfl (rc_stillM hP (fun hP => br_t rfl (rc_sources6 hP (fun hP => br_t rfl (rc_sourceM hP (fun hP => br_t rfl ⟨4, rc_l317 hA h7 hP H⟩))))))))))))
theorem rc_l62 {post : Int32 → St0 → Prop} {mc ms kc ks : Nat} {x0 x1 x2 x3 x4 x5 z0 : Int32} {f0_rules f0_size f0_line f0_coming f0_going f0_result f0_wanted f0_found f0_later : Int32} {a1 a2 a3 a4 a5 a6 a7 a8 a9 a10 a11 a12 a13 a15 a17 a18 : Nat → Int32} {a14 a16 : Nat → Int64} (hG : (z0 = 0 ∧ ∀ kd fr it sd, ¬ rc_G kd fr it sd x0 x1 x2 x3) ∨ (z0 = 1 ∧ ∃ kd fr it sd, rc_G kd fr it sd x0 x1 x2 x3)) (hP : rc_P 0 0 0 0 0 0 [] f0_rules f0_size a1 a2 a3 a4 a5 a6) (H : post 1 ()) : wL_lawOf_62 post mc ms x0 x1 x2 x3 x4 x5 z0 kc ks f0_rules f0_size f0_line f0_coming f0_going f0_result f0_wanted f0_found f0_later a1 a2 a3 a4 a5 a6 a7 a8 a9 a10 a11 a12 a13 a14 a15 a16 a17 a18 := by
  refine rc_after0 hP (by decide) (fun hP => br_t rfl (rc_afterB (i := 1) rfl (by decide) (by decide) hP (fun hP => br_t rfl (rc_letterB (i := 0) rfl (by decide) hP (by decide) rfl (by decide) (fun hP => br_t rfl (rc_clear hP (fun hP => br_t rfl (rc_apply hP (by decide) rfl (by decide) (fun hP => br_t rfl ?_)))))))))
  refine rc_dropN (i := 0) rfl (by decide) (by decide) hP (fun hP => br_t rfl (rc_swap hP (fun hP => br_t rfl (rc_sources0 hP (fun hP => br_t rfl (rc_source00 hP (fun hP => br_t rfl (rc_source01 hP (fun hP => br_t rfl ?_)))))))))
  refine rc_images (n := 2) rfl (by decide) (by decide) (fun i hi => rc_run0 _ 4 5 (rc_dl_dig i 2)) hP (fun hP => br_t rfl (rc_still (n := 2) rfl (by decide) (by decide) (fun i hi => rc_run0 _ 4 5 (rc_dl_dig i 2)) hP (fun hP => br_t rfl (rc_commute hP (fun hP => br_t rfl (rc_idleN (i := 0) rfl (by decide) (by decide) hP (fun hP => br_t rfl ?_)))))))
  rcases hG with ⟨e, g⟩ | ⟨e, kd, fr, it, sd, g⟩
  · subst e
    exact rc_ruleB g hP (fun hP => br_t rfl (rc_l237 (kd := 0) (fr := 0) (it := 0) (sd := 0) rfl (Or.inl rfl) rfl hP H))
  · subst e
    exact rc_ruleG g hP (fun hP => br_f (by decide) (rc_l237 rfl (Or.inr ⟨rfl, g⟩) rfl hP H))
theorem rc_ofG {kd fr it sd : Nat} {x0 x1 x2 x3 : Int32} (g : rc_G kd fr it sd x0 x1 x2 x3) : ¬ x0 < 0 ∧ ¬ 3 ≤ x0 ∧ (x0 = 2 ∨ (¬ x1 < 0 ∧ ¬ 4 ≤ x1)) ∧ (x0 = 1 ∨ (¬ x2 < 0 ∧ ¬ 4 ≤ x2)) ∧ ¬ x3 < 0 ∧ ¬ 1024 ≤ x3 := by
  obtain ⟨g1, g2, g3, g4, g5, g6, g7, g8, g9, g10⟩ := g
  refine ⟨by rw [g1]; exact nI_pos (by omega), by rw [g1]; exact nI_ge (b := 3) g2 (by decide), ?_, ?_, by rw [g9]; exact nI_pos (by omega), by rw [g9]; exact nI_ge (b := 1024) g10 (by decide)⟩
  · by_cases e : kd = 2
    · exact Or.inl (by rw [g1, e]; rfl)
    · exact Or.inr ⟨by rw [g3 e]; exact nI_pos (by omega), by rw [g3 e]; exact nI_ge (b := 4) g7 (by decide)⟩
  · by_cases e : kd = 1
    · exact Or.inl (by rw [g1, e]; rfl)
    · exact Or.inr ⟨by rw [g5 e]; exact nI_pos (by omega), by rw [g5 e]; exact nI_ge (b := 4) g8 (by decide)⟩
theorem rc_l32 {post : Int32 → St0 → Prop} {mc ms kc ks : Nat} {x0 x1 x2 x3 x4 x5 : Int32} {f0_rules f0_size f0_line f0_coming f0_going f0_result f0_wanted f0_found f0_later : Int32} {a1 a2 a3 a4 a5 a6 a7 a8 a9 a10 a11 a12 a13 a15 a17 a18 : Nat → Int32} {a14 a16 : Nat → Int64} (h0 : ¬ x0 < 0) (h0' : x0 ≤ 2) (h1 : x0 = 2 ∨ (¬ x1 < 0 ∧ x1 ≤ 3)) (hP : rc_P 0 0 0 0 0 0 [] f0_rules f0_size a1 a2 a3 a4 a5 a6) (H : post 1 ()) : wL_lawOf_32 post mc ms x0 x1 x2 x3 x4 x5 kc ks f0_rules f0_size f0_line f0_coming f0_going f0_result f0_wanted f0_found f0_later a1 a2 a3 a4 a5 a6 a7 a8 a9 a10 a11 a12 a13 a14 a15 a16 a17 a18 := by
  have B : (∀ kd fr it sd, ¬ rc_G kd fr it sd x0 x1 x2 x3) → wL_lawOf_61 post mc ms x0 x1 x2 x3 x4 x5 kc ks f0_rules f0_size f0_line f0_coming f0_going f0_result f0_wanted f0_found f0_later a1 a2 a3 a4 a5 a6 a7 a8 a9 a10 a11 a12 a13 a14 a15 a16 a17 a18 := fun g => rc_l62 (Or.inl ⟨rfl, g⟩) hP H
  have T : (x0 = 1 ∨ (¬ x2 < 0 ∧ x2 ≤ 3)) → wL_lawOf_46 post mc ms x0 x1 x2 x3 x4 x5 kc ks f0_rules f0_size f0_line f0_coming f0_going f0_result f0_wanted f0_found f0_later a1 a2 a3 a4 a5 a6 a7 a8 a9 a10 a11 a12 a13 a14 a15 a16 a17 a18 := fun h2 =>
    br_c (fun z => B (fun kd fr it sd g => (rc_ofG g).2.2.2.2.1 z)) (fun z => br_c (fun z' => B (fun kd fr it sd g => (rc_ofG g).2.2.2.2.2 z')) (fun z' => rc_l62 (Or.inr ⟨rfl, rc_mkG h0 h0' h1 h2 z (rc_below (n := 1023) z' (by decide))⟩) hP H))
  exact br_c (fun e => T (Or.inl e)) (fun e => br_c (fun z => B (fun kd fr it sd g => (rc_ofG g).2.2.2.1.elim (fun t => e t) (fun t => t.1 z))) (fun z => br_c (fun z' => B (fun kd fr it sd g => (rc_ofG g).2.2.2.1.elim (fun t => e t) (fun t => t.2 z'))) (fun z' => T (Or.inr ⟨z, rc_below (n := 3) z' (by decide)⟩))))
theorem rc_init0 {w : List Nat} (hw : w = []) : rc_P 0 0 0 0 0 0 w 0 0 (fun _ => 0) (fun _ => 0) (fun _ => 0) (fun _ => 0) (fun _ => 0) (fun _ => 0) := by
  subst hw
  exact ⟨rfl, by decide, rfl, rc_ar_nil, rc_dig_nil, fun z => absurd z (by decide)⟩
theorem rc_lawOf {post : Int32 → St0 → Prop} {x0 x1 x2 x3 x4 x5 : Int32} (H : post 1 ()) : wpL_lawOf post 19 5376 () x0 x1 x2 x3 x4 x5 := by
  have hP := rc_init0 rfl
  refine ⟨by decide, by decide, 18, 5349, by decide, by decide, ?_⟩
  refine ⟨by decide, by decide, by decide, by decide, by decide, by decide, by decide, by decide, by decide, by decide, by decide, by decide, by decide, by decide, by decide, by decide, by decide, by decide, by decide, by decide, by decide, by decide, by decide, by decide, by decide, by decide, by decide, by decide, by decide, by decide, by decide, by decide, by decide, by decide, by decide, by decide, ?_⟩
  refine br_c (fun z => rc_l62 (Or.inl ⟨rfl, fun kd fr it sd g => (rc_ofG g).1 z⟩) hP H) (fun z0 => br_c (fun z => rc_l62 (Or.inl ⟨rfl, fun kd fr it sd g => (rc_ofG g).2.1 z⟩) hP H) (fun z0' => br_c (fun e => rc_l32 z0 (rc_below (n := 2) z0' (by decide)) (Or.inl e) hP H) (fun e => br_c (fun z => rc_l62 (Or.inl ⟨rfl, fun kd fr it sd g => (rc_ofG g).2.2.1.elim (fun t => e t) (fun t => t.1 z)⟩) hP H) (fun z => br_c (fun z' => rc_l62 (Or.inl ⟨rfl, fun kd fr it sd g => (rc_ofG g).2.2.1.elim (fun t => e t) (fun t => t.2 z')⟩) hP H) (fun z' => rc_l32 z0 (rc_below (n := 2) z0' (by decide)) (Or.inr ⟨z, rc_below (n := 3) z' (by decide)⟩) hP H)))))
theorem rc_cell {post : Int32 → Prop} {L i : Nat} {xs : Nat → Int32} {p : Int32} (hp : p = nI i) (hL : L ≤ 6) (hi : i < 6) (H : ∀ r, post r) : wpL_cellAt post L xs () p := by
  subst hp
  exact pk_le L i (fun _ => H _) (fun z => ⟨pk_in i L z, H _⟩)
end
section
theorem i_vc (xs : Nat → Int32) (L : Nat) (hL : L ≤ 6) : wpL_law (fun r => r = 1) L xs :=
  rc_cell (i := 0) rfl hL (by decide) (fun r1 => rc_cell (i := 1) rfl hL (by decide) (fun r2 => rc_cell (i := 2) rfl hL (by decide) (fun r3 => rc_cell (i := 3) rfl hL (by decide) (fun r4 => rc_cell (i := 4) rfl hL (by decide) (fun r5 => rc_cell (i := 5) rfl hL (by decide) (fun r6 => ⟨19, 5376, by decide, by decide, rc_lawOf rfl⟩))))))
end

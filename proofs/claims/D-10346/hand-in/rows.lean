section
/-! pure pictures of RoleSessions -/
def rs_u (f : Nat → Nat) (k v : Nat) : Nat → Nat := fun j => if j = k then v else f j
theorem rs_us {f : Nat → Nat} {k v : Nat} : rs_u f k v k = v := if_pos rfl
theorem rs_un {f : Nat → Nat} {k v j : Nat} (h : j ≠ k) : rs_u f k v j = f j := if_neg h
/-- labels, sender, receiver of a token -/
def rs_lb (t : Nat) : Nat := if t = 0 then 0 else if t ≤ 16 then 1 else 2
def rs_sd (t : Nat) : Nat := (t - 1) % 4
def rs_rc (t : Nat) : Nat := (t - 1) % 16 / 4
def rs_tk (t : Nat) : Prop := t ≤ 32 ∧ (t ≠ 0 → rs_sd t ≠ rs_rc t)
/-- plans missing behind j tokens -/
def rs_nd (T : Nat → Nat) : Nat → Nat
  | 0 => 1
  | j + 1 => rs_nd T j + rs_lb (T j) - 1
def rs_TI (n : Nat) (T : Nat → Nat) : Prop := n ≤ 21 ∧ ∀ j, j < n → rs_tk (T j) ∧ 1 ≤ rs_nd T j
theorem rs_lb_le (t : Nat) : rs_lb t ≤ 2 := by
  unfold rs_lb
  split
  · omega
  · split <;> omega
theorem rs_lb_0 {t : Nat} : rs_lb t = 0 ↔ t = 0 := by
  unfold rs_lb
  split
  · omega
  · split <;> omega
theorem rs_sd_lt (t : Nat) : rs_sd t < 4 := by unfold rs_sd; omega
theorem rs_rc_lt (t : Nat) : rs_rc t < 4 := by unfold rs_rc; omega
theorem rs_nd_le (T : Nat → Nat) : ∀ j, rs_nd T j ≤ 1 + j
  | 0 => by show 1 ≤ 1 + 0; omega
  | j + 1 => by
    have h := rs_nd_le T j
    have h2 := rs_lb_le (T j)
    show rs_nd T j + rs_lb (T j) - 1 ≤ 1 + (j + 1)
    omega
theorem rs_nd_s (T : Nat → Nat) (j : Nat) : rs_nd T (j + 1) = rs_nd T j + rs_lb (T j) - 1 := rfl
theorem rs_nd_cong {T T' : Nat → Nat} : ∀ j, (∀ i, i < j → T' i = T i) → rs_nd T' j = rs_nd T j
  | 0, _ => rfl
  | j + 1, h => by
    rw [rs_nd_s, rs_nd_s, rs_nd_cong j (fun i hi => h i (by omega)), h j (by omega)]
/-- the table of parts -/
def rs_TB (P : Nat) (D C F Z : Nat → Nat) : Prop :=
  1 ≤ P ∧ Z 0 = 0 ∧ ∀ p, 1 ≤ p → p < P → 1 ≤ D p ∧ D p ≤ 8 ∧ 1 ≤ C p ∧ C p ≤ 2 ∧ F (2 * p) < p ∧ F (2 * p + 1) < p ∧ Z p = 1 + Z (F (2 * p)) + Z (F (2 * p + 1)) ∧ Z p ≤ 21
/-- the table grew -/
def rs_EX (P : Nat) (D C F Z : Nat → Nat) (P' : Nat) (D' C' F' Z' : Nat → Nat) : Prop :=
  P ≤ P' ∧ ∀ p, p < P → D' p = D p ∧ C' p = C p ∧ F' (2 * p) = F (2 * p) ∧ F' (2 * p + 1) = F (2 * p + 1) ∧ Z' p = Z p
theorem rs_EX_refl (P : Nat) (D C F Z : Nat → Nat) : rs_EX P D C F Z P D C F Z := ⟨Nat.le_refl P, fun _ _ => ⟨rfl, rfl, rfl, rfl, rfl⟩⟩
theorem rs_TB_Z {P : Nat} {D C F Z : Nat → Nat} (h : rs_TB P D C F Z) {p : Nat} (hp : p < P) : Z p ≤ 21 := by
  by_cases e : p = 0
  · rw [e, h.2.1]; omega
  · exact (h.2.2 p (by omega) hp).2.2.2.2.2.2.2
theorem rs_TB_1 {D C F Z : Nat → Nat} (h : Z 0 = 0) : rs_TB 1 D C F Z := ⟨Nat.le_refl 1, h, fun p h1 h2 => absurd h1 (by omega)⟩
theorem rs_add {P : Nat} {D C F Z : Nat → Nat} {d lab f s : Nat} (h : rs_TB P D C F Z) (hd : 1 ≤ d) (hd8 : d ≤ 8) (hl : 1 ≤ lab) (hl2 : lab ≤ 2) (hf : f < P) (hs : s < P) (hz : 1 + Z f + Z s ≤ 21) :
    rs_EX P D C F Z (P + 1) (rs_u D P d) (rs_u C P lab) (rs_u (rs_u F (2 * P) f) (2 * P + 1) s) (rs_u Z P (1 + Z f + Z s)) ∧ rs_TB (P + 1) (rs_u D P d) (rs_u C P lab) (rs_u (rs_u F (2 * P) f) (2 * P + 1) s) (rs_u Z P (1 + Z f + Z s)) := by
  have hP : 1 ≤ P := h.1
  have eF0 : ∀ p, p < P → rs_u (rs_u F (2 * P) f) (2 * P + 1) s (2 * p) = F (2 * p) := fun p hp => by
    rw [rs_un (by omega), rs_un (by omega)]
  have eF1 : ∀ p, p < P → rs_u (rs_u F (2 * P) f) (2 * P + 1) s (2 * p + 1) = F (2 * p + 1) := fun p hp => by
    rw [rs_un (by omega), rs_un (by omega)]
  have eZ : ∀ p, p < P → rs_u Z P (1 + Z f + Z s) p = Z p := fun p hp => rs_un (by omega)
  refine ⟨⟨by omega, fun p hp => ⟨rs_un (by omega), rs_un (by omega), eF0 p hp, eF1 p hp, eZ p hp⟩⟩, by omega, ?_, fun p h1 h2 => ?_⟩
  · rw [eZ 0 (by omega)]; exact h.2.1
  · by_cases e : p = P
    · subst e
      have e0 : rs_u (rs_u F (2 * p) f) (2 * p + 1) s (2 * p) = f := by rw [rs_un (by omega), rs_us]
      have e1 : rs_u (rs_u F (2 * p) f) (2 * p + 1) s (2 * p + 1) = s := rs_us
      rw [e0, e1, rs_us, rs_us, rs_us, eZ f hf, eZ s hs]
      exact ⟨hd, hd8, hl, hl2, hf, hs, rfl, hz⟩
    · have hp : p < P := by omega
      obtain ⟨g1, g2, g3, g4, g5, g6, g7, g8⟩ := h.2.2 p h1 hp
      rw [eF0 p hp, eF1 p hp, rs_un e, rs_un e, eZ p hp, eZ _ (by omega), eZ _ (by omega)]
      exact ⟨g1, g2, g3, g4, g5, g6, g7, g8⟩
/-- one message: roles r and s go on by label l -/
def rs_sp (F R : Nat → Nat) (r s l : Nat) : Nat → Nat := rs_u (rs_u R r (F (2 * R r + l))) s (F (2 * R s + l))
theorem rs_sp_s {F R : Nat → Nat} {r s l : Nat} : rs_sp F R r s l s = F (2 * R s + l) := rs_us
theorem rs_sp_r {F R : Nat → Nat} {r s l : Nat} (h : r ≠ s) : rs_sp F R r s l r = F (2 * R r + l) := by
  unfold rs_sp; rw [rs_un h, rs_us]
theorem rs_sp_n {F R : Nat → Nat} {r s l x : Nat} (h : x ≠ r) (h2 : x ≠ s) : rs_sp F R r s l x = R x := by
  unfold rs_sp; rw [rs_un h2, rs_un h]
/-- a good configuration, to depth m -/
def rs_G (D C F : Nat → Nat) : Nat → (Nat → Nat) → Prop
  | 0, R => ∀ x, x < 4 → R x = 0
  | m + 1, R => (∀ x, x < 4 → R x = 0) ∨ ∃ r s, r < 4 ∧ s < 4 ∧ r ≠ s ∧ R r ≠ 0 ∧ R s ≠ 0 ∧ D (R r) = 1 + s ∧ D (R s) = 5 + r ∧ 1 ≤ C (R r) ∧ C (R s) = C (R r) ∧ ∀ l, l < C (R r) → rs_G D C F m (rs_sp F R r s l)
def rs_P (D C R : Nat → Nat) (r s l : Nat) : Prop := R r ≠ 0 ∧ R s ≠ 0 ∧ D (R r) = 1 + s ∧ D (R s) = 5 + r ∧ l < C (R r) ∧ l < C (R s)
theorem rs_G_zero {D C F R : Nat → Nat} (m : Nat) (h : ∀ x, x < 4 → R x = 0) : rs_G D C F m R := by
  cases m with
  | zero => exact h
  | succ m => exact Or.inl h
theorem rs_G_mono {D C F : Nat → Nat} : ∀ (m : Nat) (R : Nat → Nat), rs_G D C F m R → rs_G D C F (m + 1) R
  | 0, _, h => Or.inl h
  | m + 1, R, h => by
    rcases h with h | ⟨r, s, h1, h2, h3, h4, h5, h6, h7, h8, h9, h10⟩
    · exact Or.inl h
    · exact Or.inr ⟨r, s, h1, h2, h3, h4, h5, h6, h7, h8, h9, fun l hl => rs_G_mono m _ (h10 l hl)⟩
theorem rs_G_le {D C F R : Nat → Nat} {m : Nat} (h : rs_G D C F m R) : ∀ k, rs_G D C F (m + k) R
  | 0 => h
  | k + 1 => rs_G_mono (m + k) R (rs_G_le h k)
theorem rs_G_cong {D C F R R' : Nat → Nat} (m : Nat) (e : ∀ x, x < 4 → R' x = R x) (h : rs_G D C F m R) : rs_G D C F m R' := by
  induction m generalizing R R' with
  | zero => exact fun x hx => (e x hx).trans (h x hx)
  | succ m ih =>
    rcases h with h | ⟨r, s, h1, h2, h3, h4, h5, h6, h7, h8, h9, h10⟩
    · exact Or.inl (fun x hx => (e x hx).trans (h x hx))
    · refine Or.inr ⟨r, s, h1, h2, h3, ?_⟩
      rw [e r h1, e s h2]
      refine ⟨h4, h5, h6, h7, h8, h9, fun l hl => ih (fun x hx => ?_) (h10 l hl)⟩
      by_cases es : x = s
      · rw [es, rs_sp_s, rs_sp_s, e s h2]
      · by_cases er : x = r
        · rw [er, rs_sp_r h3, rs_sp_r h3, e r h1]
        · rw [rs_sp_n er es, rs_sp_n er es, e x hx]
theorem rs_pair {D R : Nat → Nat} {r s r' s' : Nat} (hs : s < 4) (hs' : s' < 4) (h1 : D (R r) = 1 + s) (h2 : D (R s) = 5 + r) (h3 : D (R r') = 1 + s') (h4 : D (R s') = 5 + r') :
    (r' = r ∧ s' = s) ∨ (r' ≠ r ∧ r' ≠ s ∧ s' ≠ r ∧ s' ≠ s) := by
  by_cases e1 : r' = r
  · subst e1
    exact Or.inl ⟨rfl, by omega⟩
  · refine Or.inr ⟨e1, fun e => ?_, fun e => ?_, fun e => ?_⟩
    · subst e; omega
    · subst e; omega
    · subst e; omega
theorem rs_G_prog {D C F R : Nat → Nat} {m : Nat} (h : rs_G D C F m R) (hn : ¬ ∀ x, x < 4 → R x = 0) : ∃ r s, r < 4 ∧ s < 4 ∧ rs_P D C R r s 0 := by
  cases m with
  | zero => exact absurd h hn
  | succ m =>
    rcases h with h | ⟨r, s, h1, h2, h3, h4, h5, h6, h7, h8, h9, h10⟩
    · exact absurd h hn
    · exact ⟨r, s, h1, h2, h4, h5, h6, h7, by omega, by omega⟩
theorem rs_G_lab {D C F R : Nat → Nat} {r' s' l : Nat} (m : Nat) (h : rs_G D C F m R) (hr : r' < 4) (hs : s' < 4) (hp : rs_P D C R r' s' l) : C (R r') = C (R s') := by
  induction m generalizing R with
  | zero => exact absurd (h r' hr) hp.1
  | succ m ih =>
    rcases h with h | ⟨r, s, h1, h2, h3, h4, h5, h6, h7, h8, h9, h10⟩
    · exact absurd (h r' hr) hp.1
    · obtain ⟨p1, p2, p3, p4, p5, p6⟩ := hp
      rcases rs_pair h2 hs h6 h7 p3 p4 with ⟨e1, e2⟩ | ⟨n1, n2, n3, n4⟩
      · subst e1 e2; exact h9.symm
      · have er : rs_sp F R r s 0 r' = R r' := rs_sp_n n1 n2
        have es : rs_sp F R r s 0 s' = R s' := rs_sp_n n3 n4
        have := ih (h10 0 (by omega)) ⟨by rw [er]; exact p1, by rw [es]; exact p2, by rw [er]; exact p3, by rw [es]; exact p4, by rw [er]; exact p5, by rw [es]; exact p6⟩
        rw [er, es] at this
        exact this
theorem rs_sp_comm {F R : Nat → Nat} {r s l r' s' l' : Nat} (h : r ≠ s) (h' : r' ≠ s') (n1 : r' ≠ r) (n2 : r' ≠ s) (n3 : s' ≠ r) (n4 : s' ≠ s) : rs_sp F (rs_sp F R r' s' l') r s l = rs_sp F (rs_sp F R r s l) r' s' l' := by
  funext x
  by_cases a : x = s
  · subst a
    rw [rs_sp_s, rs_sp_n n2.symm n4.symm, rs_sp_n n2.symm n4.symm, rs_sp_s]
  · by_cases b : x = r
    · subst b
      rw [rs_sp_r h, rs_sp_n n1.symm n3.symm, rs_sp_n n1.symm n3.symm, rs_sp_r h]
    · rw [rs_sp_n b a]
      by_cases c : x = s'
      · subst c
        rw [rs_sp_s, rs_sp_s, rs_sp_n n3 n4]
      · by_cases d : x = r'
        · subst d
          rw [rs_sp_r h', rs_sp_r h', rs_sp_n n1 n2]
        · rw [rs_sp_n d c, rs_sp_n d c, rs_sp_n b a]
theorem rs_P_ne {D C R : Nat → Nat} {r s l : Nat} (hs : s < 4) (hp : rs_P D C R r s l) : r ≠ s := by
  obtain ⟨p1, p2, p3, p4, p5, p6⟩ := hp
  intro e
  subst e
  omega
theorem rs_G_step {D C F R : Nat → Nat} {r' s' l' : Nat} (m : Nat) (h : rs_G D C F m R) (hr : r' < 4) (hs : s' < 4) (hp : rs_P D C R r' s' l') : rs_G D C F m (rs_sp F R r' s' l') := by
  induction m generalizing R with
  | zero => exact absurd (h r' hr) hp.1
  | succ m ih =>
    have hne : r' ≠ s' := rs_P_ne hs hp
    rcases h with h | ⟨r, s, h1, h2, h3, h4, h5, h6, h7, h8, h9, h10⟩
    · exact absurd (h r' hr) hp.1
    · obtain ⟨p1, p2, p3, p4, p5, p6⟩ := hp
      rcases rs_pair h2 hs h6 h7 p3 p4 with ⟨e1, e2⟩ | ⟨n1, n2, n3, n4⟩
      · subst e1 e2
        exact rs_G_mono m _ (h10 l' p5)
      · have er : rs_sp F R r' s' l' r = R r := rs_sp_n n1.symm n3.symm
        have es : rs_sp F R r' s' l' s = R s := rs_sp_n n2.symm n4.symm
        refine Or.inr ⟨r, s, h1, h2, h3, ?_⟩
        rw [er, es]
        refine ⟨h4, h5, h6, h7, h8, h9, fun l hl => ?_⟩
        rw [rs_sp_comm h3 hne n1 n2 n3 n4]
        have er' : rs_sp F R r s l r' = R r' := rs_sp_n n1 n2
        have es' : rs_sp F R r s l s' = R s' := rs_sp_n n3 n4
        exact ih (h10 l hl) ⟨by rw [er']; exact p1, by rw [es']; exact p2, by rw [er']; exact p3, by rw [es']; exact p4, by rw [er']; exact p5, by rw [es']; exact p6⟩
theorem rs_G_ext {P : Nat} {D C F Z : Nat → Nat} {P' : Nat} {D' C' F' Z' R : Nat → Nat} (m : Nat) (hb : rs_TB P D C F Z) (hx : rs_EX P D C F Z P' D' C' F' Z') (hR : ∀ x, x < 4 → R x < P) (h : rs_G D C F m R) : rs_G D' C' F' m R := by
  induction m generalizing R with
  | zero => exact h
  | succ m ih =>
    rcases h with h | ⟨r, s, h1, h2, h3, h4, h5, h6, h7, h8, h9, h10⟩
    · exact Or.inl h
    · have xr := hx.2 (R r) (hR r h1)
      have xs := hx.2 (R s) (hR s h2)
      have br := hb.2.2 (R r) (by omega) (hR r h1)
      have bs := hb.2.2 (R s) (by omega) (hR s h2)
      refine Or.inr ⟨r, s, h1, h2, h3, h4, h5, by rw [xr.1]; exact h6, by rw [xs.1]; exact h7, by rw [xr.2.1]; exact h8, by rw [xr.2.1, xs.2.1]; exact h9, fun l hl => ?_⟩
      rw [xr.2.1] at hl
      have hl2 : l = 0 ∨ l = 1 := by omega
      have e1 : F' (2 * R r + l) = F (2 * R r + l) ∧ F (2 * R r + l) < P := by
        have := hR r h1
        rcases hl2 with e | e <;> subst e
        · exact ⟨xr.2.2.1, by show F (2 * R r) < P; omega⟩
        · exact ⟨xr.2.2.2.1, by omega⟩
      have e2 : F' (2 * R s + l) = F (2 * R s + l) ∧ F (2 * R s + l) < P := by
        have := hR s h2
        rcases hl2 with e | e <;> subst e
        · exact ⟨xs.2.2.1, by show F (2 * R s) < P; omega⟩
        · exact ⟨xs.2.2.2.1, by omega⟩
      have e : rs_sp F' R r s l = rs_sp F R r s l := by
        unfold rs_sp
        rw [e1.1, e2.1]
      rw [e]
      refine ih (fun x hx4 => ?_) (h10 l hl)
      by_cases a : x = s
      · rw [a, rs_sp_s]; exact e2.2
      · by_cases b : x = r
        · rw [b, rs_sp_r h3]; exact e1.2
        · rw [rs_sp_n b a]; exact hR x hx4
end
section
/-! what learn knows of token j; what project answers -/
def rs_cf (Q : Nat → Nat) (j : Nat) : Nat → Nat := fun x => Q (j * 4 + x) - 1
def rs_OK (n : Nat) (T S Q D C F Z : Nat → Nat) (P j : Nat) : Prop :=
  1 ≤ S j ∧ j + S j ≤ n ∧ rs_nd T (j + S j) + 1 = rs_nd T j ∧ (∀ x, x < 4 → Q (j * 4 + x) ≤ P ∧ (Q (j * 4 + x) ≠ 0 → Z (Q (j * 4 + x) - 1) ≤ S j)) ∧ ((∀ x, x < 4 → Q (j * 4 + x) ≠ 0) → rs_G D C F (n - j) (rs_cf Q j))
/-- the second plan's part of role x, by its code -/
def rs_s2 (S Q : Nat → Nat) (lab i x : Nat) : Nat := if lab = 2 then Q ((i + 1 + S (i + 1)) * 4 + x) else 1
def rs_PR (lab sd rc x f s q P : Nat) (D C F : Nat → Nat) : Prop :=
  (lab = 0 → q = 1) ∧ (lab ≠ 0 → f = 0 ∨ s = 0 → q = 0) ∧ (lab ≠ 0 → f ≠ 0 → s ≠ 0 →
    (x = sd → 2 ≤ q ∧ q ≤ P ∧ D (q - 1) = 1 + rc ∧ C (q - 1) = lab ∧ F (2 * (q - 1)) = f - 1 ∧ F (2 * (q - 1) + 1) = s - 1) ∧
    (x ≠ sd → x = rc → 2 ≤ q ∧ q ≤ P ∧ D (q - 1) = 5 + sd ∧ C (q - 1) = lab ∧ F (2 * (q - 1)) = f - 1 ∧ F (2 * (q - 1) + 1) = s - 1) ∧
    (x ≠ sd → x ≠ rc → (lab = 1 ∨ f = s → q = f) ∧ (¬ (lab = 1 ∨ f = s) → q = 0)))
theorem rs_OK_ext {n : Nat} {T S S' Q Q' D C F Z D' C' F' Z' : Nat → Nat} {P P' j : Nat} (hb : rs_TB P D C F Z) (hx : rs_EX P D C F Z P' D' C' F' Z') (hS : S' j = S j) (hQ : ∀ x, x < 4 → Q' (j * 4 + x) = Q (j * 4 + x)) (h : rs_OK n T S Q D C F Z P j) : rs_OK n T S' Q' D' C' F' Z' P' j := by
  obtain ⟨h1, h2, h3, h4, h5⟩ := h
  refine ⟨by rw [hS]; exact h1, by rw [hS]; exact h2, by rw [hS]; exact h3, fun x hx4 => ?_, fun hq => ?_⟩
  · obtain ⟨a, b⟩ := h4 x hx4
    have := hx.1
    have hP := hb.1
    rw [hQ x hx4, hS]
    refine ⟨by omega, fun z => ?_⟩
    rw [(hx.2 (Q (j * 4 + x) - 1) (by omega)).2.2.2.2]
    exact b z
  · have hq' : ∀ x, x < 4 → Q (j * 4 + x) ≠ 0 := fun x hx4 => by rw [← hQ x hx4]; exact hq x hx4
    refine rs_G_cong (R := rs_cf Q j) (n - j) (fun x hx4 => ?_) (rs_G_ext (n - j) hb hx (fun x hx4 => ?_) (h5 hq'))
    · unfold rs_cf; rw [hQ x hx4]
    · have := (h4 x hx4).1
      have := hq' x hx4
      unfold rs_cf
      omega
theorem rs_PR_ext {lab sd rc x f s q P : Nat} {D C F Z : Nat → Nat} {P' : Nat} {D' C' F' Z' : Nat → Nat} (hx : rs_EX P D C F Z P' D' C' F' Z') (h : rs_PR lab sd rc x f s q P D C F) : rs_PR lab sd rc x f s q P' D' C' F' := by
  obtain ⟨h1, h2, h3⟩ := h
  have hP := hx.1
  refine ⟨h1, h2, fun a b c => ?_⟩
  obtain ⟨g1, g2, g3⟩ := h3 a b c
  refine ⟨fun e => ?_, fun e e2 => ?_, g3⟩
  · obtain ⟨k1, k2, k3, k4, k5, k6⟩ := g1 e
    obtain ⟨y1, y2, y3, y4, y5⟩ := hx.2 (q - 1) (by omega)
    rw [y1, y2, y3, y4]
    exact ⟨k1, by omega, k3, k4, k5, k6⟩
  · obtain ⟨k1, k2, k3, k4, k5, k6⟩ := g2 e e2
    obtain ⟨y1, y2, y3, y4, y5⟩ := hx.2 (q - 1) (by omega)
    rw [y1, y2, y3, y4]
    exact ⟨k1, by omega, k3, k4, k5, k6⟩
/-- a role's answer: in the table, not longer than the span -/
theorem rs_PR_sz {lab sd rc x f s q P : Nat} {D C F Z : Nat → Nat} {a b : Nat} (hb : rs_TB P D C F Z) (h : rs_PR lab sd rc x f s q P D C F)
    (hf : lab ≠ 0 → f ≤ P ∧ (f ≠ 0 → Z (f - 1) ≤ a)) (hs : lab ≠ 0 → s ≠ 0 → Z (s - 1) ≤ b) : q ≤ P ∧ (q ≠ 0 → Z (q - 1) ≤ 1 + a + b) := by
  obtain ⟨h1, h2, h3⟩ := h
  have hP := hb.1
  by_cases hl : lab = 0
  · rw [h1 hl]
    exact ⟨hP, fun _ => by show Z 0 ≤ _; rw [hb.2.1]; omega⟩
  · by_cases h0 : f = 0 ∨ s = 0
    · rw [h2 hl h0]
      exact ⟨by omega, fun z => absurd rfl z⟩
    · have f0 : f ≠ 0 := fun z => h0 (Or.inl z)
      have s0 : s ≠ 0 := fun z => h0 (Or.inr z)
      obtain ⟨g1, g2, g3⟩ := h3 hl f0 s0
      obtain ⟨hf1, hf2⟩ := hf hl
      have hs2 := hs hl s0
      have hf3 := hf2 f0
      have key : 2 ≤ q → q ≤ P → F (2 * (q - 1)) = f - 1 → F (2 * (q - 1) + 1) = s - 1 → Z (q - 1) ≤ 1 + a + b := by
        intro k1 k2 k5 k6
        have t := (hb.2.2 (q - 1) (by omega) (by omega)).2.2.2.2.2.2.1
        rw [k5, k6] at t
        omega
      by_cases e1 : x = sd
      · obtain ⟨k1, k2, k3, k4, k5, k6⟩ := g1 e1
        exact ⟨k2, fun _ => key k1 k2 k5 k6⟩
      · by_cases e2 : x = rc
        · obtain ⟨k1, k2, k3, k4, k5, k6⟩ := g2 e1 e2
          exact ⟨k2, fun _ => key k1 k2 k5 k6⟩
        · obtain ⟨k1, k2⟩ := g3 e1 e2
          by_cases e3 : lab = 1 ∨ f = s
          · rw [k1 e3]
            exact ⟨hf1, fun _ => by omega⟩
          · rw [k2 e3]
            exact ⟨by omega, fun z => absurd rfl z⟩
/-- one label's step of a plan's configuration -/
theorem rs_PR_step {lab sd rc P l : Nat} {D C F : Nat → Nat} {q f s g : Nat → Nat} (hl : l < lab) (hl2 : lab ≤ 2) (hne : sd ≠ rc) (hr : sd < 4) (hs : rc < 4)
    (hg : ∀ x, x < 4 → g x = if l = 0 then f x else s x)
    (h : ∀ x, x < 4 → rs_PR lab sd rc x (f x) (s x) (q x) P D C F) (hq : ∀ x, x < 4 → q x ≠ 0) :
    (∀ x, x < 4 → f x ≠ 0 ∧ s x ≠ 0) ∧ ∀ x, x < 4 → rs_sp F (fun x => q x - 1) sd rc l x = g x - 1 := by
  have hlab : lab ≠ 0 := by omega
  have fs : ∀ x, x < 4 → f x ≠ 0 ∧ s x ≠ 0 := fun x hx =>
    ⟨fun z => hq x hx ((h x hx).2.1 hlab (Or.inl z)), fun z => hq x hx ((h x hx).2.1 hlab (Or.inr z))⟩
  have hl01 : l = 0 ∨ l = 1 := by omega
  refine ⟨fs, fun x hx => ?_⟩
  obtain ⟨g1, g2, g3⟩ := (h x hx).2.2 hlab (fs x hx).1 (fs x hx).2
  rw [hg x hx]
  by_cases a : x = rc
  · subst a
    rw [rs_sp_s]
    obtain ⟨k1, k2, k3, k4, k5, k6⟩ := g2 (fun z => hne z.symm) rfl
    rcases hl01 with e | e <;> subst e
    · exact k5
    · exact k6
  · by_cases b : x = sd
    · subst b
      rw [rs_sp_r hne]
      obtain ⟨k1, k2, k3, k4, k5, k6⟩ := g1 rfl
      rcases hl01 with e | e <;> subst e
      · exact k5
      · exact k6
    · rw [rs_sp_n b a]
      obtain ⟨k1, k2⟩ := g3 b a
      show q x - 1 = _
      by_cases e3 : lab = 1 ∨ f x = s x
      · rw [k1 e3]
        rcases hl01 with e | e <;> subst e
        · rfl
        · rcases e3 with e3 | e3
          · omega
          · rw [e3]; rfl
      · exact absurd (k2 e3) (hq x hx)
theorem rs_PR_G {lab sd rc P m : Nat} {D C F : Nat → Nat} {q f s : Nat → Nat} (hl1 : 1 ≤ lab) (hl2 : lab ≤ 2) (hne : sd ≠ rc) (hr : sd < 4) (hs : rc < 4)
    (h : ∀ x, x < 4 → rs_PR lab sd rc x (f x) (s x) (q x) P D C F) (hq : ∀ x, x < 4 → q x ≠ 0)
    (hf : (∀ x, x < 4 → f x ≠ 0) → rs_G D C F m (fun x => f x - 1)) (hg : lab = 2 → (∀ x, x < 4 → s x ≠ 0) → rs_G D C F m (fun x => s x - 1)) : rs_G D C F (m + 1) (fun x => q x - 1) := by
  have fs := (rs_PR_step (l := 0) (g := f) (by omega) hl2 hne hr hs (fun x hx => rfl) h hq).1
  have kr := ((h sd hr).2.2 (by omega) (fs sd hr).1 (fs sd hr).2).1 rfl
  have ks := ((h rc hs).2.2 (by omega) (fs rc hs).1 (fs rc hs).2).2.1 (fun z => hne z.symm) rfl
  refine Or.inr ⟨sd, rc, hr, hs, hne, by show q sd - 1 ≠ 0; omega, by show q rc - 1 ≠ 0; omega, kr.2.2.1, ks.2.2.1, by show 1 ≤ C (q sd - 1); rw [kr.2.2.2.1]; exact hl1, by show C (q rc - 1) = C (q sd - 1); rw [kr.2.2.2.1, ks.2.2.2.1], fun l hl => ?_⟩
  have hl' : l < lab := by
    have hl'' : l < C (q sd - 1) := hl
    rw [kr.2.2.2.1] at hl''
    exact hl''
  by_cases e : l = 0
  · exact rs_G_cong m (rs_PR_step (g := f) hl' hl2 hne hr hs (fun x hx => by rw [if_pos e]) h hq).2 (hf (fun x hx => (fs x hx).1))
  · exact rs_G_cong m (rs_PR_step (g := s) hl' hl2 hne hr hs (fun x hx => by rw [if_neg e]) h hq).2 (hg (by omega) (fun x hx => (fs x hx).2))
/-- spans: where the second plan begins, where the whole ends -/
theorem rs_in1 {n i : Nat} {T : Nat → Nat} (hT : rs_TI n T) (hc : rs_nd T n = 0) (hi : i < n) (hl : rs_lb (T i) ≠ 0) : i + 1 < n := by
  by_cases e : i + 1 = n
  · subst e
    rw [rs_nd_s] at hc
    have := (hT.2 i hi).2
    omega
  · omega
theorem rs_in2 {n i : Nat} {T S Q D C F Z : Nat → Nat} {P : Nat} (hT : rs_TI n T) (hc : rs_nd T n = 0) (hi : i < n) (hl : rs_lb (T i) = 2) (h1 : rs_OK n T S Q D C F Z P (i + 1)) : i + 1 + S (i + 1) < n := by
  have a := h1.2.1
  have b := h1.2.2.1
  rw [rs_nd_s T i] at b
  have := (hT.2 i hi).2
  by_cases e : i + 1 + S (i + 1) = n
  · rw [e, hc] at b
    omega
  · omega
theorem rs_OK_new {n i : Nat} {T S Q D C F Z : Nat → Nat} {P : Nat} (hT : rs_TI n T) (hc : rs_nd T n = 0) (hi : i < n) (hb : rs_TB P D C F Z)
    (ho : ∀ j, i < j → j < n → rs_OK n T S Q D C F Z P j)
    (hS : S i = 1 + (if rs_lb (T i) = 0 then 0 else S (i + 1)) + (if rs_lb (T i) = 2 then S (i + 1 + S (i + 1)) else 0))
    (hR : ∀ x, x < 4 → rs_PR (rs_lb (T i)) (rs_sd (T i)) (rs_rc (T i)) x (Q ((i + 1) * 4 + x)) (rs_s2 S Q (rs_lb (T i)) i x) (Q (i * 4 + x)) P D C F) : rs_OK n T S Q D C F Z P i := by
  have hn1 := (hT.2 i hi).2
  have hlb := rs_lb_le (T i)
  by_cases l0 : rs_lb (T i) = 0
  · rw [if_pos l0, if_neg (by omega)] at hS
    have hq : ∀ x, x < 4 → Q (i * 4 + x) = 1 := fun x hx => (hR x hx).1 l0
    refine ⟨by omega, by omega, ?_, fun x hx => ?_, fun _ => ?_⟩
    · rw [hS]
      show rs_nd T (i + 1) + 1 = _
      rw [rs_nd_s, l0]
      omega
    · rw [hq x hx]
      exact ⟨hb.1, fun _ => by show Z 0 ≤ _; rw [hb.2.1]; omega⟩
    · exact rs_G_zero _ (fun x hx => by show Q (i * 4 + x) - 1 = 0; rw [hq x hx])
  · have i1 := rs_in1 hT hc hi l0
    have o1 := ho (i + 1) (by omega) i1
    have hne : rs_sd (T i) ≠ rs_rc (T i) := (hT.2 i hi).1.2 (fun z => l0 (rs_lb_0.mpr z))
    obtain ⟨a1, a2, a3, a4, a5⟩ := o1
    rw [rs_nd_s T i] at a3
    rw [if_neg l0] at hS
    by_cases l2 : rs_lb (T i) = 2
    · have i2 := rs_in2 hT hc hi l2 (ho (i + 1) (by omega) i1)
      obtain ⟨b1, b2, b3, b4, b5⟩ := ho (i + 1 + S (i + 1)) (by omega) i2
      rw [if_pos l2] at hS
      have es : ∀ x, rs_s2 S Q (rs_lb (T i)) i x = Q ((i + 1 + S (i + 1)) * 4 + x) := fun x => if_pos l2
      refine ⟨by omega, by omega, ?_, fun x hx => ?_, fun hq => ?_⟩
      · rw [hS, show i + (1 + S (i + 1) + S (i + 1 + S (i + 1))) = i + 1 + S (i + 1) + S (i + 1 + S (i + 1)) by omega]
        omega
      · rw [hS]
        refine rs_PR_sz hb (hR x hx) (fun _ => a4 x hx) (fun _ => ?_)
        rw [es]
        exact (b4 x hx).2
      · rw [show n - i = (n - (i + 1)) + 1 by omega]
        refine rs_PR_G (q := fun x => Q (i * 4 + x)) (f := fun x => Q ((i + 1) * 4 + x)) (s := fun x => rs_s2 S Q (rs_lb (T i)) i x) (by omega) hlb hne (rs_sd_lt _) (rs_rc_lt _) hR hq a5 (fun _ hs => ?_)
        have t := b5 (fun x hx => by rw [← es]; exact hs x hx)
        have t2 := rs_G_le t (S (i + 1))
        rw [show n - (i + 1 + S (i + 1)) + S (i + 1) = n - (i + 1) by omega] at t2
        exact rs_G_cong _ (fun x hx => by show rs_s2 S Q (rs_lb (T i)) i x - 1 = _; rw [es]; rfl) t2
    · have l1 : rs_lb (T i) = 1 := by omega
      rw [if_neg l2] at hS
      have es : ∀ x, rs_s2 S Q (rs_lb (T i)) i x = 1 := fun x => if_neg l2
      refine ⟨by omega, by omega, ?_, fun x hx => ?_, fun hq => ?_⟩
      · rw [hS, show i + (1 + S (i + 1) + 0) = i + 1 + S (i + 1) by omega]
        omega
      · rw [hS]
        refine rs_PR_sz hb (hR x hx) (fun _ => a4 x hx) (fun _ _ => ?_)
        rw [es]
        show Z 0 ≤ 0
        rw [hb.2.1]
        exact Nat.le_refl 0
      · rw [show n - i = (n - (i + 1)) + 1 by omega]
        exact rs_PR_G (q := fun x => Q (i * 4 + x)) (f := fun x => Q ((i + 1) * 4 + x)) (s := fun x => rs_s2 S Q (rs_lb (T i)) i x) (by omega) hlb hne (rs_sd_lt _) (rs_rc_lt _) hR hq a5 (fun e _ => absurd e l2)
end
section
/-! arrays as pictures; missing, partFor, project -/
def rs_a (A : Nat → Nat) : Nat → Int32 := fun j => nI (A j)
def rs_q : Nat → Int32
  | 0 => -1
  | q + 1 => nI q
def rs_b (Q : Nat → Nat) : Nat → Int32 := fun j => rs_q (Q j)
theorem rs_au (A : Nat → Nat) (k v : Nat) : upd (rs_a A) k (nI v) = rs_a (rs_u A k v) := by
  funext j
  show (if j = k then nI v else nI (A j)) = nI (if j = k then v else A j)
  split <;> rfl
theorem rs_bu (A : Nat → Nat) (k v : Nat) : upd (rs_b A) k (rs_q v) = rs_b (rs_u A k v) := by
  funext j
  show (if j = k then rs_q v else rs_q (A j)) = rs_q (if j = k then v else A j)
  split <;> rfl
theorem rs_byte : ∀ v, v < 128 → (nI v).toInt8.toInt32 = nI v := by decide +kernel
theorem rs_qbyte : ∀ v, v < 128 → (rs_q v).toInt8.toInt32 = rs_q v := by decide +kernel
theorem rs_at (A : Nat → Nat) {x : Int32} (k : Nat) (hx : x = nI k) (hk : k < 2 ^ 31) : rs_a A x.toNatClampNeg = nI (A k) := by
  rw [hx, nI_clamp hk]; rfl
theorem rs_bt (A : Nat → Nat) {x : Int32} (k : Nat) (hx : x = nI k) (hk : k < 2 ^ 31) : rs_b A x.toNatClampNeg = rs_q (A k) := by
  rw [hx, nI_clamp hk]; rfl
theorem rs_nm1 {q : Nat} (h : q < 2 ^ 31) : ¬ nI q = -1 := fun e => by
  have e2 := congrArg Int32.toInt e
  rw [nI_toInt h, show (-1 : Int32).toInt = -1 from by decide] at e2
  omega
theorem rs_qe {A B : Prop} (q : Nat) (h0 : q = 0 → A) (h1 : q ≠ 0 → B) (hq : q < 2 ^ 31) : (rs_q q = -1 → A) ∧ (¬ rs_q q = -1 → B) := by
  cases q with
  | zero => exact br_t rfl (h0 rfl)
  | succ q => exact br_f (rs_nm1 (by omega)) (h1 (by omega))
theorem rs_q_m1 (i : Nat) : nI i + (-1) = rs_q i := by
  cases i with
  | zero => decide
  | succ i => exact pk_m1 i
theorem rs_q_pos {q : Nat} (h : q ≠ 0) : rs_q q = nI (q - 1) := by
  cases q with
  | zero => exact absurd rfl h
  | succ q => rfl
theorem rs_labelsOf {post : Int32 → Prop} {t : Nat} (ht : t ≤ 32) (h : post (nI (rs_lb t))) : wpX_labelsOf post () (nI t) := by
  refine pk_eq t 0 (fun z => ?_) (fun z => pk_le t 16 (fun z2 => ?_) (fun z2 => ?_))
  · rw [show rs_lb t = 0 from rs_lb_0.mpr z] at h
    exact h
  · rw [show rs_lb t = 1 from by unfold rs_lb; rw [if_neg z, if_pos z2]] at h
    exact h
  · rw [show rs_lb t = 2 from by unfold rs_lb; rw [if_neg z, if_neg (by omega)]] at h
    exact h
theorem rs_sdT : ∀ t, t < 33 → 1 ≤ t → (nI t ≤ 16 → (nI t - 1) &&& 3 = nI (rs_sd t)) ∧ (¬ nI t ≤ 16 → (nI t - 17) &&& 3 = nI (rs_sd t)) := by decide +kernel
theorem rs_rcT : ∀ t, t < 33 → 1 ≤ t → (nI t ≤ 16 → (nI t - 1) >>> ((2 : Int32) &&& 31) = nI (rs_rc t)) ∧ (¬ nI t ≤ 16 → (nI t - 17) >>> ((2 : Int32) &&& 31) = nI (rs_rc t)) := by decide +kernel
theorem rs_senderOf {post : Int32 → Prop} {t : Nat} (h1 : 1 ≤ t) (ht : t ≤ 32) (h : post (nI (rs_sd t))) : wpX_senderOf post () (nI t) := by
  have e := rs_sdT t (by omega) h1
  exact ⟨fun z => by rw [e.1 z]; exact h, fun z => by rw [e.2 z]; exact h⟩
theorem rs_receiverOf {post : Int32 → Prop} {t : Nat} (h1 : 1 ≤ t) (ht : t ≤ 32) (h : post (nI (rs_rc t))) : wpX_receiverOf post () (nI t) := by
  have e := rs_rcT t (by omega) h1
  exact ⟨fun z => by rw [e.1 z]; exact h, fun z => by rw [e.2 z]; exact h⟩
theorem rs_isRole {post : Int32 → Prop} {x : Nat} (hx : x < 4) (h : post 1) : wpX_isRole post () (nI x) :=
  pk_lt x 0 (fun z => absurd z (by omega)) (fun _ => pk_le 4 x (fun z => absurd z (by omega)) (fun _ => h))
theorem rs_addm {a b : Nat} (h : 1 ≤ a) : nI a + (nI b - 1) = nI (a + b - 1) := by
  obtain ⟨c, rfl⟩ : ∃ c, a = c + 1 := ⟨a - 1, by omega⟩
  have g : ∀ x y : Int32, (x + 1) + (y - 1) = x + y := fun x y => by grind
  rw [show c + 1 + b - 1 = c + b by omega, ← nI_1 c, g, nI_add]
section
variable {kn pc rn sc : Int32} {a2 a3 a4 a5 a6 a7 a8 : Nat → Int32}
theorem rs_missing4 {post : Int32 → Prop} {n : Nat} {T : Nat → Nat} (hT : rs_TI n T) (h : post (nI (rs_nd T n))) :
    ∀ f i, i ≤ n → n - i < f → wX_missing_4 post (nI n) kn pc rn sc (rs_a T) a2 a3 a4 a5 a6 a7 a8 f (nI (rs_nd T i)) (nI i) := by
  intro f
  have hn := hT.1
  induction f with
  | zero => intro i h1 h2; omega
  | succ f ih =>
    intro i h1 h2
    refine pk_le n i (fun z => ?_) (fun z => ⟨pk_in i 21 (by omega), ?_⟩)
    · rw [show i = n by omega]
      exact h
    · have hi := hT.2 i z
      rw [rs_at T i rfl (by omega)]
      refine rs_labelsOf hi.1.1 (nm_r (rs_addm hi.2) (nm_r (nI_1 i) ?_))
      exact ih (i + 1) (by omega) (by omega)
theorem rs_missing {post : Int32 → Prop} {n : Nat} {T : Nat → Nat} (hT : rs_TI n T) (h : post (nI (rs_nd T n))) :
    wpX_missing post (nI n, kn, pc, rn, sc, rs_a T, a2, a3, a4, a5, a6, a7, a8) :=
  ⟨n + 1, rs_missing4 hT h (n + 1) 0 (by omega) (by omega)⟩
theorem rs_complete {post : Int32 → Prop} {n : Nat} {T : Nat → Nat} (hT : rs_TI n T) (h1 : rs_nd T n = 0 → post 1) (h0 : rs_nd T n ≠ 0 → post 0) :
    wpX_complete post (nI n, kn, pc, rn, sc, rs_a T, a2, a3, a4, a5, a6, a7, a8) := by
  unfold wpX_complete
  dsimp only
  refine rs_missing hT ?_
  have hn := hT.1
  have hd := rs_nd_le T n
  exact pk_eq (rs_nd T n) 0 h1 h0
end
section
variable {cn kn rn sc : Int32} {a1 a2 a3 a8 : Nat → Int32}
theorem rs_pf3 {post : Int32 → St1 → Prop} {P d lab f s : Nat} {D C F Z : Nat → Nat} (hb : rs_TB P D C F Z) (hP : P ≤ 47) (hd : 1 ≤ d) (hd8 : d ≤ 8) (hl : 1 ≤ lab) (hl2 : lab ≤ 2) (hf : f < P) (hs : s < P) (hz : 1 + Z f + Z s ≤ 21)
    (H : ∀ (P' : Nat) (D' C' F' Z' : Nat → Nat) (p : Nat), 1 ≤ p → p < P' → P' ≤ P + 1 → rs_EX P D C F Z P' D' C' F' Z' → rs_TB P' D' C' F' Z' → D' p = d → C' p = lab → F' (2 * p) = f → F' (2 * p + 1) = s → post (nI p) (cn, kn, nI P', rn, sc, a1, a2, a3, rs_a D', rs_a C', rs_a F', rs_a Z', a8)) :
    ∀ fu p, 1 ≤ p → p ≤ P → P - p < fu → wX_partFor_3 post (nI d) (nI lab) (nI f) (nI s) cn kn (nI P) rn sc a1 a2 a3 (rs_a D) (rs_a C) (rs_a F) (rs_a Z) a8 fu (nI p) := by
  intro fu
  have hP1 := hb.1
  induction fu with
  | zero => intro p h1 h2 h3; omega
  | succ fu ih =>
    intro p h1 h2 h3
    have m2 : ∀ k, (2 : Int32) * nI k = nI (2 * k) := fun k => pk_mul 2 k
    have m21 : ∀ k, (2 : Int32) * nI k + 1 = nI (2 * k + 1) := fun k => by rw [m2]; exact nI_1 _
    refine pk_le P p (fun z => ?_) (fun z => ⟨pk_in p 48 (by omega), ?_⟩)
    · have hg := rs_add hb hd hd8 hl hl2 hf hs hz
      have e4 : upd (rs_a D) (nI P).toNatClampNeg (nI d).toInt8.toInt32 = rs_a (rs_u D P d) := by rw [nI_clamp (by omega), rs_byte d (by omega), rs_au]
      have e5 : upd (rs_a C) (nI P).toNatClampNeg (nI lab).toInt8.toInt32 = rs_a (rs_u C P lab) := by rw [nI_clamp (by omega), rs_byte lab (by omega), rs_au]
      have e6 : upd (rs_a F) ((2 : Int32) * nI P).toNatClampNeg (nI f).toInt8.toInt32 = rs_a (rs_u F (2 * P) f) := by rw [m2, nI_clamp (by omega), rs_byte f (by omega), rs_au]
      have e6' : upd (rs_a (rs_u F (2 * P) f)) ((2 : Int32) * nI P + 1).toNatClampNeg (nI s).toInt8.toInt32 = rs_a (rs_u (rs_u F (2 * P) f) (2 * P + 1) s) := by rw [m21, nI_clamp (by omega), rs_byte s (by omega), rs_au]
      have e7 : upd (rs_a Z) (nI P).toNatClampNeg ((1 + rs_a Z (nI f).toNatClampNeg) + rs_a Z (nI s).toNatClampNeg) = rs_a (rs_u Z P (1 + Z f + Z s)) := by
        rw [nI_clamp (show P < 2 ^ 31 by omega), rs_at Z f rfl (by omega), rs_at Z s rfl (by omega), show (1 : Int32) = nI 1 from rfl, nI_add, nI_add, rs_au]
      refine ⟨pk_in P 48 (by omega), nm_r e4 ⟨pk_in P 48 (by omega), nm_r e5 ⟨pk_in (2 * P) 96 (by omega) (m2 P), nm_r e6 ⟨pk_in (2 * P + 1) 96 (by omega) (m21 P), nm_r e6' ⟨pk_in f 48 (by omega), pk_in s 48 (by omega), pk_in P 48 (by omega), nm_r e7 (nm_r (nI_1 P) ?_)⟩⟩⟩⟩⟩
      exact H (P + 1) _ _ _ _ P hP1 (by omega) (Nat.le_refl _) hg.1 hg.2 rs_us rs_us (by rw [rs_un (by omega), rs_us]) rs_us
    · obtain ⟨g1, g2, g3, g4, g5, g6, g7, g8⟩ := hb.2.2 p h1 z
      have next := ih (p + 1) (by omega) (by omega) (by omega)
      rw [rs_at D p rfl (by omega), rs_at C p rfl (by omega)]
      have no : wX_partFor_38 post (wX_partFor_3 post (nI d) (nI lab) (nI f) (nI s) cn kn (nI P) rn sc a1 a2 a3 (rs_a D) (rs_a C) (rs_a F) (rs_a Z) a8 fu) (nI d) (nI lab) (nI f) (nI s) (nI p) cn kn (nI P) rn sc a1 a2 a3 (rs_a D) (rs_a C) (rs_a F) (rs_a Z) a8 :=
        br_t rfl (nm_r (nI_1 p) next)
      refine pk_eq (D p) d (fun q1 => ⟨pk_in p 48 (by omega), pk_eq (C p) lab (fun q2 => ?_) (fun _ => no)⟩) (fun _ => no)
      refine br_f (by decide) ⟨pk_in (2 * p) 96 (by omega) (m2 p), ?_⟩
      rw [rs_at F (2 * p) (m2 p) (by omega), rs_at F (2 * p + 1) (m21 p) (by omega)]
      refine pk_eq (F (2 * p)) f (fun q3 => ⟨pk_in (2 * p + 1) 96 (by omega) (m21 p), pk_eq (F (2 * p + 1)) s (fun q4 => ?_) (fun _ => nm_r (nI_1 p) next)⟩) (fun _ => nm_r (nI_1 p) next)
      exact H P D C F Z p h1 z (by omega) (rs_EX_refl P D C F Z) hb q1 q2 q3 q4
theorem rs_pf {post : Int32 → St1 → Prop} {P d lab f s : Nat} {D C F Z : Nat → Nat} (hb : rs_TB P D C F Z) (hP : P ≤ 47) (hd : 1 ≤ d) (hd8 : d ≤ 8) (hl : 1 ≤ lab) (hl2 : lab ≤ 2) (hf : f < P) (hs : s < P) (hz : 1 + Z f + Z s ≤ 21)
    (H : ∀ (P' : Nat) (D' C' F' Z' : Nat → Nat) (p : Nat), 1 ≤ p → p < P' → P' ≤ P + 1 → rs_EX P D C F Z P' D' C' F' Z' → rs_TB P' D' C' F' Z' → D' p = d → C' p = lab → F' (2 * p) = f → F' (2 * p + 1) = s → post (nI p) (cn, kn, nI P', rn, sc, a1, a2, a3, rs_a D', rs_a C', rs_a F', rs_a Z', a8)) :
    wpX_partFor post (cn, kn, nI P, rn, sc, a1, a2, a3, rs_a D, rs_a C, rs_a F, rs_a Z, a8) (nI d) (nI lab) (nI f) (nI s) :=
  ⟨P + 1, rs_pf3 hb hP hd hd8 hl hl2 hf hs hz H (P + 1) 1 (Nat.le_refl 1) hb.1 (by omega)⟩
end
end
section
section
variable {cn kn rn sc : Int32} {a2 a3 a8 : Nat → Int32}
theorem rs_p50 {post : Int32 → St1 → Prop} {P i t x f s : Nat} {T D C F Z : Nat → Nat} (hb : rs_TB P D C F Z) (hP : P ≤ 47) (hi : i < 21) (ht : T i = t) (htk : t ≤ 32) (ht1 : 1 ≤ t) (hx : x < 4) (hf : f ≤ P) (hs : s ≤ P) (hz : f ≠ 0 → s ≠ 0 → 1 + Z (f - 1) + Z (s - 1) ≤ 21)
    (H : ∀ (P' : Nat) (D' C' F' Z' : Nat → Nat) (q : Nat), rs_EX P D C F Z P' D' C' F' Z' → rs_TB P' D' C' F' Z' → P' ≤ P + (if x = rs_sd t ∨ x = rs_rc t then 1 else 0) → rs_PR (rs_lb t) (rs_sd t) (rs_rc t) x f s q P' D' C' F' → q ≤ P' → post (rs_q q) (cn, kn, nI P', rn, sc, rs_a T, a2, a3, rs_a D', rs_a C', rs_a F', rs_a Z', a8)) :
    wX_project_50 post (nI i) (nI (rs_lb t)) (nI x) (rs_q f) (rs_q s) cn kn (nI P) rn sc (rs_a T) a2 a3 (rs_a D) (rs_a C) (rs_a F) (rs_a Z) a8 := by
  have hlb := rs_lb_le t
  have hl0 : rs_lb t ≠ 0 := fun z => absurd (rs_lb_0.mp z) (by omega)
  have hsd := rs_sd_lt t
  have hrc := rs_rc_lt t
  have hx0 := rs_EX_refl P D C F Z
  have h0 : f = 0 ∨ s = 0 → post (-1) (cn, kn, nI P, rn, sc, rs_a T, a2, a3, rs_a D, rs_a C, rs_a F, rs_a Z, a8) := fun z =>
    H P D C F Z 0 hx0 hb (by omega) ⟨fun e => absurd e hl0, fun _ _ => rfl, fun _ g1 g2 => absurd z (by omega)⟩ (by omega)
  refine rs_qe f (fun z => h0 (Or.inl z)) (fun f0 => rs_qe s (fun z => h0 (Or.inr z)) (fun s0 => ⟨pk_in i 21 hi, ?_⟩) (by omega)) (by omega)
  rw [rs_at T i rfl (by omega), ht]
  refine rs_senderOf ht1 htk ⟨pk_in i 21 hi, ?_⟩
  refine rs_receiverOf ht1 htk ?_
  rw [rs_q_pos f0, rs_q_pos s0, show (1 : Int32) = nI 1 from rfl, show (5 : Int32) = nI 5 from rfl, nI_add, nI_add]
  have hzz := hz f0 s0
  refine pk_eq x (rs_sd t) (fun e1 => ?_) (fun e1 => pk_eq x (rs_rc t) (fun e2 => ?_) (fun e2 => pk_eq (rs_lb t) 1 (fun e3 => ?_) (fun e3 => pk_eq (f - 1) (s - 1) (fun e4 => ?_) (fun e4 => ?_))))
  · refine rs_pf hb hP (by omega) (by omega) (by omega) hlb (by omega) (by omega) hzz (fun P' D' C' F' Z' p h1 h2 h3 hE hB q1 q2 q3 q4 => ?_)
    refine H P' D' C' F' Z' (p + 1) hE hB (by rw [if_pos (Or.inl e1)]; exact h3) ⟨fun e => absurd e hl0, fun _ z => absurd z (by omega), fun _ _ _ => ⟨fun _ => ⟨by omega, by omega, q1, q2, q3, q4⟩, fun z => absurd e1 z, fun z => absurd e1 z⟩⟩ (by omega)
  · refine rs_pf hb hP (by omega) (by omega) (by omega) hlb (by omega) (by omega) hzz (fun P' D' C' F' Z' p h1 h2 h3 hE hB q1 q2 q3 q4 => ?_)
    refine H P' D' C' F' Z' (p + 1) hE hB (by rw [if_pos (Or.inr e2)]; exact h3) ⟨fun e => absurd e hl0, fun _ z => absurd z (by omega), fun _ _ _ => ⟨fun z => absurd z e1, fun _ _ => ⟨by omega, by omega, q1, q2, q3, q4⟩, fun _ z => absurd e2 z⟩⟩ (by omega)
  · rw [← rs_q_pos f0]
    exact H P D C F Z f hx0 hb (by omega) ⟨fun e => absurd e hl0, fun _ z => absurd z (by omega), fun _ _ _ => ⟨fun z => absurd z e1, fun _ z => absurd z e2, fun _ _ => ⟨fun _ => rfl, fun z => absurd (Or.inl e3) z⟩⟩⟩ hf
  · rw [← rs_q_pos f0]
    exact H P D C F Z f hx0 hb (by omega) ⟨fun e => absurd e hl0, fun _ z => absurd z (by omega), fun _ _ _ => ⟨fun z => absurd z e1, fun _ z => absurd z e2, fun _ _ => ⟨fun _ => rfl, fun z => absurd (Or.inr (show f = s by omega)) z⟩⟩⟩ hf
  · exact H P D C F Z 0 hx0 hb (by omega) ⟨fun e => absurd e hl0, fun _ _ => rfl, fun _ _ _ => ⟨fun z => absurd z e1, fun _ z => absurd z e2, fun _ _ => ⟨fun z => absurd z (by omega), fun _ => rfl⟩⟩⟩ (by omega)
theorem rs_project {post : Int32 → St1 → Prop} {n P i x : Nat} {T S Q D C F Z : Nat → Nat} (hb : rs_TB P D C F Z) (hP : P ≤ 47) (hn : n ≤ 21) (hi : i < n) (htk : rs_tk (T i)) (hx : x < 4)
    (h1 : rs_lb (T i) ≠ 0 → i + 1 < n ∧ Q ((i + 1) * 4 + x) ≤ P) (h2 : rs_lb (T i) = 2 → i + 1 + S (i + 1) < n ∧ Q ((i + 1 + S (i + 1)) * 4 + x) ≤ P)
    (hz : rs_lb (T i) ≠ 0 → Q ((i + 1) * 4 + x) ≠ 0 → rs_s2 S Q (rs_lb (T i)) i x ≠ 0 → 1 + Z (Q ((i + 1) * 4 + x) - 1) + Z (rs_s2 S Q (rs_lb (T i)) i x - 1) ≤ 21)
    (H : ∀ (P' : Nat) (D' C' F' Z' : Nat → Nat) (q : Nat), rs_EX P D C F Z P' D' C' F' Z' → rs_TB P' D' C' F' Z' → P' ≤ P + (if x = rs_sd (T i) ∨ x = rs_rc (T i) then 1 else 0) → rs_PR (rs_lb (T i)) (rs_sd (T i)) (rs_rc (T i)) x (Q ((i + 1) * 4 + x)) (rs_s2 S Q (rs_lb (T i)) i x) q P' D' C' F' → q ≤ P' → post (rs_q q) (cn, kn, nI P', rn, sc, rs_a T, rs_a S, rs_b Q, rs_a D', rs_a C', rs_a F', rs_a Z', a8)) :
    wpX_project post (cn, kn, nI P, rn, sc, rs_a T, rs_a S, rs_b Q, rs_a D, rs_a C, rs_a F, rs_a Z, a8) (nI i) (nI (rs_lb (T i))) (nI x) := by
  have hlb := rs_lb_le (T i)
  have hP1 := hb.1
  have k1 : nI i + 1 = nI (i + 1) := nI_1 i
  have k2 : ∀ j, nI j * 4 + nI x = nI (j * 4 + x) := fun j => by rw [show (4 : Int32) = nI 4 from rfl, pk_mul, nI_add]
  unfold wpX_project
  dsimp only
  rw [k1, k2 (i + 1)]
  refine pk_eq (rs_lb (T i)) 0 (fun z => ?_) (fun z => ?_)
  · exact H P D C F Z 1 (rs_EX_refl P D C F Z) hb (by omega) ⟨fun _ => rfl, fun e => absurd z e, fun e => absurd z e⟩ hP1
  · obtain ⟨i1, q1⟩ := h1 z
    have ht1 : 1 ≤ T i := by
      by_cases e : T i = 0
      · exact absurd (rs_lb_0.mpr e) z
      · omega
    refine ⟨pk_in ((i + 1) * 4 + x) 84 (by omega), nm_r (rs_bt Q ((i + 1) * 4 + x) rfl (by omega)) (pk_le (rs_lb (T i)) 1 (fun l1 => ?_) (fun l2 => ?_))⟩
    · have es : rs_s2 S Q (rs_lb (T i)) i x = 1 := if_neg (by omega)
      rw [es] at H
      exact rs_p50 (s := 1) hb hP (by omega) rfl htk.1 ht1 hx q1 (by omega) (fun f0 _ => by have := hz z f0 (by rw [es]; omega); rw [es] at this; exact this) H
    · have es : rs_s2 S Q (rs_lb (T i)) i x = Q ((i + 1 + S (i + 1)) * 4 + x) := if_pos (by omega)
      obtain ⟨i2, q2⟩ := h2 (by omega)
      rw [es] at H hz
      rw [rs_at S (i + 1) rfl (by omega), nI_add, k2]
      refine ⟨pk_in (i + 1) 21 (by omega), pk_in ((i + 1 + S (i + 1)) * 4 + x) 84 (by omega), ?_⟩
      rw [rs_bt Q ((i + 1 + S (i + 1)) * 4 + x) rfl (by omega)]
      exact rs_p50 hb hP (by omega) rfl htk.1 ht1 hx q1 q2 (hz z) H
end
end
section
theorem rs_if1 (c : Prop) [Decidable c] : (if c then 1 else 0) ≤ 1 := by split <;> omega
theorem rs_cnt {P P' P0 sd rc x : Nat} (h1 : P' ≤ P + (if x = sd ∨ x = rc then 1 else 0)) (h2 : P ≤ P0 + (if sd < x then 1 else 0) + (if rc < x then 1 else 0)) : P' ≤ P0 + (if sd < x + 1 then 1 else 0) + (if rc < x + 1 then 1 else 0) := by
  split at h1 <;> split at h2 <;> split at h2 <;> split <;> split <;> omega
theorem rs_s2_u {S Q : Nat → Nat} {lab i y k q : Nat} (hk : k < (i + 1) * 4) : rs_s2 S (rs_u Q k q) lab i y = rs_s2 S Q lab i y := by
  unfold rs_s2
  rw [rs_un (by omega)]
theorem rs_hz {n i x : Nat} {T S Q D C F Z : Nat → Nat} {P : Nat} (hT : rs_TI n T) (hc : rs_nd T n = 0) (hi : i < n) (hx : x < 4) (hb : rs_TB P D C F Z)
    (ho : ∀ j, i < j → j < n → rs_OK n T S Q D C F Z P j) :
    rs_lb (T i) ≠ 0 → Q ((i + 1) * 4 + x) ≠ 0 → rs_s2 S Q (rs_lb (T i)) i x ≠ 0 → 1 + Z (Q ((i + 1) * 4 + x) - 1) + Z (rs_s2 S Q (rs_lb (T i)) i x - 1) ≤ 21 := by
  intro l0 f0 s0
  have hn := hT.1
  have i1 := rs_in1 hT hc hi l0
  have o1 := ho (i + 1) (by omega) i1
  have b1 := (o1.2.2.2.1 x hx).2 f0
  have c1 := o1.2.1
  by_cases l2 : rs_lb (T i) = 2
  · have es : rs_s2 S Q (rs_lb (T i)) i x = Q ((i + 1 + S (i + 1)) * 4 + x) := if_pos l2
    have i2 := rs_in2 hT hc hi l2 o1
    have o2 := ho (i + 1 + S (i + 1)) (by omega) i2
    rw [es] at s0 ⊢
    have b2 := (o2.2.2.2.1 x hx).2 s0
    have c2 := o2.2.1
    omega
  · have es : rs_s2 S Q (rs_lb (T i)) i x = 1 := if_neg l2
    rw [es]
    show 1 + Z (Q ((i + 1) * 4 + x) - 1) + Z 0 ≤ 21
    rw [hb.2.1]
    omega
section
variable {kn rn sc : Int32} {a8 : Nat → Int32}
theorem rs_l103 {post : Int32 → St1 → Prop} {J35 : Int32 → Int32 → Int32 → Int32 → Int32 → Int32 → (Nat → Int32) → (Nat → Int32) → (Nat → Int32) → (Nat → Int32) → (Nat → Int32) → (Nat → Int32) → (Nat → Int32) → (Nat → Int32) → Prop} {n i P0 : Nat} {T S : Nat → Nat} (hT : rs_TI n T) (hc : rs_nd T n = 0) (hi : i < n) (hP0 : P0 ≤ 41)
    (HJ : ∀ (P : Nat) (Q D C F Z : Nat → Nat), rs_TB P D C F Z → P ≤ P0 + 2 → (∀ j, i < j → j < n → rs_OK n T S Q D C F Z P j) → (∀ y, y < 4 → rs_PR (rs_lb (T i)) (rs_sd (T i)) (rs_rc (T i)) y (Q ((i + 1) * 4 + y)) (rs_s2 S Q (rs_lb (T i)) i y) (Q (i * 4 + y)) P D C F) → J35 (rs_q i) (nI n) kn (nI P) rn sc (rs_a T) (rs_a S) (rs_b Q) (rs_a D) (rs_a C) (rs_a F) (rs_a Z) a8) :
    ∀ (fu x P : Nat) (Q D C F Z : Nat → Nat), x ≤ 4 → 4 - x < fu → rs_TB P D C F Z → P ≤ P0 + (if rs_sd (T i) < x then 1 else 0) + (if rs_rc (T i) < x then 1 else 0) → (∀ j, i < j → j < n → rs_OK n T S Q D C F Z P j) → (∀ y, y < x → rs_PR (rs_lb (T i)) (rs_sd (T i)) (rs_rc (T i)) y (Q ((i + 1) * 4 + y)) (rs_s2 S Q (rs_lb (T i)) i y) (Q (i * 4 + y)) P D C F) →
    wX_learn_103 post J35 (nI i) (nI (rs_lb (T i))) fu (nI x) (nI n) kn (nI P) rn sc (rs_a T) (rs_a S) (rs_b Q) (rs_a D) (rs_a C) (rs_a F) (rs_a Z) a8 := by
  intro fu
  have hn := hT.1
  induction fu with
  | zero => intro x P Q D C F Z h1 h2; omega
  | succ fu ih =>
    intro x P Q D C F Z h1 h2 hb hp ho hr
    have hpp : P ≤ P0 + 2 := by
      have := rs_if1 (rs_sd (T i) < x)
      have := rs_if1 (rs_rc (T i) < x)
      omega
    refine pk_le 4 x (fun z => nm_r (rs_q_m1 i) ?_) (fun z => ?_)
    · exact HJ P Q D C F Z hb hpp ho (fun y hy => hr y (by omega))
    · have k2 : nI i * 4 + nI x = nI (i * 4 + x) := by rw [show (4 : Int32) = nI 4 from rfl, pk_mul, nI_add]
      refine rs_project (n := n) hb (by omega) hn hi (hT.2 i hi).1 z (fun l0 => ?_) (fun l2 => ?_) (rs_hz hT hc hi z hb ho) (fun P' D' C' F' Z' q hE hB hP' hR hq => ⟨pk_in (i * 4 + x) 84 (by omega) k2, nm_r ?_ (nm_r (nI_1 x) (ih (x + 1) P' (rs_u Q (i * 4 + x) q) D' C' F' Z' (by omega) (by omega) hB (rs_cnt hP' hp) ?_ ?_))⟩)
      · have i1 := rs_in1 hT hc hi l0
        exact ⟨i1, ((ho (i + 1) (by omega) i1).2.2.2.1 x z).1⟩
      · have i1 := rs_in1 hT hc hi (by omega)
        have i2 := rs_in2 hT hc hi l2 (ho (i + 1) (by omega) i1)
        exact ⟨i2, ((ho (i + 1 + S (i + 1)) (by omega) i2).2.2.2.1 x z).1⟩
      · have hP'' : P' ≤ P + 1 := by
          have := rs_if1 (x = rs_sd (T i) ∨ x = rs_rc (T i))
          omega
        rw [k2, nI_clamp (by omega), rs_qbyte q (by omega), rs_bu]
      · exact fun j hj hjn => rs_OK_ext hb hE rfl (fun y hy => rs_un (by omega)) (ho j hj hjn)
      · intro y hy
        rw [rs_s2_u (by omega), rs_un (show (i + 1) * 4 + y ≠ i * 4 + x by omega)]
        by_cases e : y = x
        · subst e
          rw [rs_us]
          exact hR
        · rw [rs_un (by omega)]
          exact rs_PR_ext hE (hr y (by omega))
theorem rs_l85 {post : Int32 → St1 → Prop} {J35 : Int32 → Int32 → Int32 → Int32 → Int32 → Int32 → (Nat → Int32) → (Nat → Int32) → (Nat → Int32) → (Nat → Int32) → (Nat → Int32) → (Nat → Int32) → (Nat → Int32) → (Nat → Int32) → Prop} {n i P fi se : Nat} {T S Q D C F Z : Nat → Nat} (hT : rs_TI n T) (hc : rs_nd T n = 0) (hi : i < n) (hb : rs_TB P D C F Z) (hP : P ≤ 1 + 2 * (n - (i + 1)))
    (ho : ∀ j, i < j → j < n → rs_OK n T S Q D C F Z P j) (hfi : fi = if rs_lb (T i) = 0 then 0 else S (i + 1)) (hse : se = if rs_lb (T i) = 2 then S (i + 1 + S (i + 1)) else 0) (hv : 1 + fi + se ≤ 21)
    (HJ : ∀ (P : Nat) (S Q D C F Z : Nat → Nat), rs_TB P D C F Z → P ≤ 1 + 2 * (n - i) → (∀ j, i ≤ j → j < n → rs_OK n T S Q D C F Z P j) → J35 (rs_q i) (nI n) kn (nI P) rn sc (rs_a T) (rs_a S) (rs_b Q) (rs_a D) (rs_a C) (rs_a F) (rs_a Z) a8) :
    wX_learn_85 post J35 (nI i) (nI (rs_lb (T i))) (nI fi) (nI se) (nI n) kn (nI P) rn sc (rs_a T) (rs_a S) (rs_b Q) (rs_a D) (rs_a C) (rs_a F) (rs_a Z) a8 := by
  have hn := hT.1
  refine ⟨pk_in i 21 (by omega), nm_r (e' := rs_a (rs_u S i (1 + fi + se))) ?_ ⟨5, ?_⟩⟩
  · rw [show (1 : Int32) = nI 1 from rfl, nI_add, nI_add, nI_clamp (by omega), rs_byte _ (by omega), rs_au]
  · have ho' : ∀ j, i < j → j < n → rs_OK n T (rs_u S i (1 + fi + se)) Q D C F Z P j := fun j h1 h2 => rs_OK_ext hb (rs_EX_refl P D C F Z) (rs_un (by omega)) (fun _ _ => rfl) (ho j h1 h2)
    refine rs_l103 (P0 := P) hT hc hi (by omega) (fun P' Q' D' C' F' Z' hB hp hO hR => ?_) 5 0 P Q D C F Z (by omega) (by omega) hb (by omega) ho' (fun y hy => absurd hy (by omega))
    refine HJ P' _ Q' D' C' F' Z' hB (by omega) (fun j h1 h2 => ?_)
    by_cases e : j = i
    · subst e
      refine rs_OK_new hT hc h2 hB hO ?_ hR
      have e1 : rs_u S j (1 + fi + se) (j + 1) = S (j + 1) := rs_un (by omega)
      have e2 : rs_u S j (1 + fi + se) (j + 1 + S (j + 1)) = S (j + 1 + S (j + 1)) := rs_un (by omega)
      rw [e1, e2, rs_us, ← hfi, ← hse]
    · exact hO j (by omega) h2
theorem rs_l65 {post : Int32 → St1 → Prop} {J35 : Int32 → Int32 → Int32 → Int32 → Int32 → Int32 → (Nat → Int32) → (Nat → Int32) → (Nat → Int32) → (Nat → Int32) → (Nat → Int32) → (Nat → Int32) → (Nat → Int32) → (Nat → Int32) → Prop} {n i P fi : Nat} {T S Q D C F Z : Nat → Nat} (hT : rs_TI n T) (hc : rs_nd T n = 0) (hi : i < n) (hb : rs_TB P D C F Z) (hP : P ≤ 1 + 2 * (n - (i + 1)))
    (ho : ∀ j, i < j → j < n → rs_OK n T S Q D C F Z P j) (hfi : fi = if rs_lb (T i) = 0 then 0 else S (i + 1))
    (HJ : ∀ (P : Nat) (S Q D C F Z : Nat → Nat), rs_TB P D C F Z → P ≤ 1 + 2 * (n - i) → (∀ j, i ≤ j → j < n → rs_OK n T S Q D C F Z P j) → J35 (rs_q i) (nI n) kn (nI P) rn sc (rs_a T) (rs_a S) (rs_b Q) (rs_a D) (rs_a C) (rs_a F) (rs_a Z) a8) :
    wX_learn_65 post J35 (nI i) (nI (rs_lb (T i))) (nI fi) (nI n) kn (nI P) rn sc (rs_a T) (rs_a S) (rs_b Q) (rs_a D) (rs_a C) (rs_a F) (rs_a Z) a8 := by
  have hn := hT.1
  have hlb := rs_lb_le (T i)
  have hf : fi ≤ n - 1 - i := by
    by_cases l0 : rs_lb (T i) = 0
    · rw [hfi, if_pos l0]; omega
    · have i1 := rs_in1 hT hc hi l0
      have := (ho (i + 1) (by omega) i1).2.1
      rw [hfi, if_neg l0]
      omega
  refine pk_le (rs_lb (T i)) 1 (fun l1 => ?_) (fun l2 => ?_)
  · exact rs_l85 (se := 0) hT hc hi hb hP ho hfi (by rw [if_neg (by omega)]) (by omega) HJ
  · have l2' : rs_lb (T i) = 2 := by omega
    have i1 := rs_in1 hT hc hi (by omega)
    have i2 := rs_in2 hT hc hi l2' (ho (i + 1) (by omega) i1)
    have c2 := (ho (i + 1 + S (i + 1)) (by omega) i2).2.1
    rw [if_neg (by omega)] at hfi
    have k : nI i + 1 + nI fi = nI (i + 1 + S (i + 1)) := by rw [nI_1, nI_add, hfi]
    refine ⟨pk_in (i + 1 + S (i + 1)) 21 (by omega) k, ?_⟩
    rw [rs_at S (i + 1 + S (i + 1)) k (by omega)]
    exact rs_l85 hT hc hi hb hP ho (by rw [if_neg (by omega)]; exact hfi) (by rw [if_pos l2']) (by omega) HJ
theorem rs_l35 {post : Int32 → St1 → Prop} {n : Nat} {T : Nat → Nat} (hT : rs_TI n T) (hc : rs_nd T n = 0)
    (H : ∀ (P : Nat) (S Q D C F Z : Nat → Nat), rs_TB P D C F Z → P ≤ 1 + 2 * n → (∀ j, j < n → rs_OK n T S Q D C F Z P j) → post 1 (nI n, kn, nI P, rn, sc, rs_a T, rs_a S, rs_b Q, rs_a D, rs_a C, rs_a F, rs_a Z, a8)) :
    ∀ (fu k P : Nat) (S Q D C F Z : Nat → Nat), k ≤ n → k < fu → rs_TB P D C F Z → P ≤ 1 + 2 * (n - k) → (∀ j, k ≤ j → j < n → rs_OK n T S Q D C F Z P j) →
    wX_learn_35 post fu (rs_q k) (nI n) kn (nI P) rn sc (rs_a T) (rs_a S) (rs_b Q) (rs_a D) (rs_a C) (rs_a F) (rs_a Z) a8 := by
  intro fu
  have hn := hT.1
  induction fu with
  | zero => intro k P S Q D C F Z h1 h2; omega
  | succ fu ih =>
    intro k P S Q D C F Z h1 h2 hb hP ho
    cases k with
    | zero => exact br_t (by decide) (H P S Q D C F Z hb hP (fun j hj => ho j (by omega) hj))
    | succ i =>
      rw [show rs_q (i + 1) = nI i from rfl]
      refine br_f (nI_pos (by omega)) ⟨pk_in i 21 (by omega), ?_⟩
      rw [rs_at T i rfl (by omega)]
      have htk := (hT.2 i (by omega)).1
      have hlb := rs_lb_le (T i)
      have HJ : ∀ (P : Nat) (S Q D C F Z : Nat → Nat), rs_TB P D C F Z → P ≤ 1 + 2 * (n - i) → (∀ j, i ≤ j → j < n → rs_OK n T S Q D C F Z P j) → wX_learn_35 post fu (rs_q i) (nI n) kn (nI P) rn sc (rs_a T) (rs_a S) (rs_b Q) (rs_a D) (rs_a C) (rs_a F) (rs_a Z) a8 :=
        fun P S Q D C F Z g1 g2 g3 => ih i P S Q D C F Z (by omega) (by omega) g1 g2 g3
      refine rs_labelsOf htk.1 (pk_le (rs_lb (T i)) 0 (fun l0 => ?_) (fun l0 => ?_))
      · exact rs_l65 (fi := 0) hT hc (by omega) hb hP ho (by rw [if_pos (by omega)]) HJ
      · have i1 := rs_in1 hT hc (i := i) (by omega) (by omega)
        refine ⟨pk_in (i + 1) 21 (by omega) (nI_1 i), ?_⟩
        rw [rs_at S (i + 1) (nI_1 i) (by omega)]
        exact rs_l65 hT hc (by omega) hb hP ho (by rw [if_neg (by omega)]) HJ
theorem rs_learn0 {post : Int32 → St1 → Prop} {n : Nat} {pc : Int32} {T S Q D C F Z : Nat → Nat} (hT : rs_TI n T) (hc : rs_nd T n = 0) (hz : Z 0 = 0)
    (H : ∀ (P : Nat) (S Q D C F Z : Nat → Nat), rs_TB P D C F Z → P ≤ 1 + 2 * n → (∀ j, j < n → rs_OK n T S Q D C F Z P j) → post 1 (nI n, 1, nI P, rn, sc, rs_a T, rs_a S, rs_b Q, rs_a D, rs_a C, rs_a F, rs_a Z, a8)) :
    wpX_learn post (nI n, 0, pc, rn, sc, rs_a T, rs_a S, rs_b Q, rs_a D, rs_a C, rs_a F, rs_a Z, a8) := by
  unfold wpX_learn
  dsimp only
  have hn := hT.1
  have e : nI n - 1 = rs_q n := by
    cases n with
    | zero => exact absurd hc (by show ¬ (1 : Nat) = 0; omega)
    | succ n => exact nI_pred n
  refine rs_complete hT (fun z => br_f (by decide) (br_t rfl (nm_r e ⟨n + 1, ?_⟩))) (fun z => absurd hc z)
  exact rs_l35 hT hc H (n + 1) n 1 S Q D C F Z (Nat.le_refl n) (by omega) (rs_TB_1 hz) (by omega) (fun j h1 h2 => absurd h1 (by omega))
theorem rs_learnN {post : Int32 → St1 → Prop} {n : Nat} {kn pc : Int32} {a2 a3 a4 a5 a6 a7 : Nat → Int32} {T : Nat → Nat} (hT : rs_TI n T) (hc : rs_nd T n ≠ 0)
    (H : post 0 (nI n, kn, pc, rn, sc, rs_a T, a2, a3, a4, a5, a6, a7, a8)) : wpX_learn post (nI n, kn, pc, rn, sc, rs_a T, a2, a3, a4, a5, a6, a7, a8) := by
  unfold wpX_learn
  dsimp only
  exact rs_complete hT (fun z => absurd z hc) (fun z => br_t rfl H)
theorem rs_learnK {post : Int32 → St1 → Prop} {n : Nat} {pc : Int32} {a2 a3 a4 a5 a6 a7 : Nat → Int32} {T : Nat → Nat} (hT : rs_TI n T) (hc : rs_nd T n = 0)
    (H : post 1 (nI n, 1, pc, rn, sc, rs_a T, a2, a3, a4, a5, a6, a7, a8)) : wpX_learn post (nI n, 1, pc, rn, sc, rs_a T, a2, a3, a4, a5, a6, a7, a8) := by
  unfold wpX_learn
  dsimp only
  exact rs_complete hT (fun z => br_f (by decide) (br_f (by decide) H)) (fun z => absurd hc z)
end
end
section
/-! the object's invariant; fixed, fit, size, start -/
def rs_KI (n P : Nat) (T Q D C F Z : Nat → Nat) : Prop := rs_nd T n = 0 ∧ rs_TB P D C F Z ∧ P ≤ 43 ∧ (∀ x, x < 4 → Q x ≤ P) ∧ ((∀ x, x < 4 → Q x ≠ 0) → ∃ m, rs_G D C F m (fun x => Q x - 1))
def rs_I (n : Nat) (kn : Int32) (P : Nat) (rn : Int32) (T Q D C F Z R : Nat → Nat) : Prop :=
  rs_TI n T ∧ Z 0 = 0 ∧ ((kn = 0 ∧ rn = 0) ∨ (kn = 1 ∧ rs_KI n P T Q D C F Z ∧ (rn = 0 ∨ (rn = 1 ∧ (∀ x, x < 4 → R x < P) ∧ ∃ m, rs_G D C F m R))))
def rs_V (u : St1) : Prop := ∃ (n P : Nat) (kn rn sc : Int32) (T S Q D C F Z R : Nat → Nat), u = (nI n, kn, nI P, rn, sc, rs_a T, rs_a S, rs_b Q, rs_a D, rs_a C, rs_a F, rs_a Z, rs_a R) ∧ rs_I n kn P rn T Q D C F Z R
/-- settled: learn answers what is known and leaves the object -/
def rs_W (u : St1) : Prop := rs_V u ∧ ((u.2.1 = 1 ∧ ∀ post : Int32 → St1 → Prop, post 1 u → wpX_learn post u) ∨ (u.2.1 = 0 ∧ ∀ post : Int32 → St1 → Prop, post 0 u → wpX_learn post u))
def rs_an (r : Int32) (p : Prop) : Prop := (r = 1 ∧ p) ∨ (r = 0 ∧ ¬ p)
def rs_fx (u : St1) (x : Nat) : Prop := u.2.1 = 1 ∧ ¬ u.2.2.2.2.2.2.2.1 x = -1
theorem rs_W_k {u : St1} (hV : rs_V u) (hk : u.2.1 = 1) : rs_W u := by
  refine ⟨hV, Or.inl ⟨hk, fun post hp => ?_⟩⟩
  obtain ⟨n, P, kn, rn, sc, T, S, Q, D, C, F, Z, R, rfl, hT, hz, h | ⟨h, hK, hR⟩⟩ := hV
  · exact absurd (h.1.symm.trans hk) (by decide)
  · subst h
    exact rs_learnK hT hK.1 hp
theorem rs_learnA {post : Int32 → St1 → Prop} {u : St1} (hV : rs_V u) (H : ∀ u' r, rs_W u' → rs_an r (u'.2.1 = 1) → post r u') : wpX_learn post u := by
  have hV' := hV
  obtain ⟨n, P, kn, rn, sc, T, S, Q, D, C, F, Z, R, rfl, hT, hz, hk⟩ := hV
  have hn := hT.1
  by_cases hc : rs_nd T n = 0
  · rcases hk with ⟨rfl, rfl⟩ | ⟨rfl, hK, hR⟩
    · refine rs_learn0 hT hc hz (fun P' S' Q' D' C' F' Z' hB hP hO => H _ _ (rs_W_k ⟨n, P', 1, 0, sc, T, S', Q', D', C', F', Z', R, rfl, hT, hB.2.1, Or.inr ⟨rfl, ⟨hc, hB, by omega, ?_, ?_⟩, Or.inl rfl⟩⟩ rfl) (Or.inl ⟨rfl, rfl⟩))
      · intro x hx
        have n0 : 0 < n := by
          cases n with
          | zero => exact absurd hc (by show ¬ (1 : Nat) = 0; omega)
          | succ n => omega
        have t := ((hO 0 n0).2.2.2.1 x hx).1
        rw [show 0 * 4 + x = x by omega] at t
        exact t
      · intro hq
        have n0 : 0 < n := by
          cases n with
          | zero => exact absurd hc (by show ¬ (1 : Nat) = 0; omega)
          | succ n => omega
        have t := (hO 0 n0).2.2.2.2 (fun x hx => by rw [show 0 * 4 + x = x by omega]; exact hq x hx)
        exact ⟨n - 0, rs_G_cong _ (fun x hx => by show Q' x - 1 = Q' (0 * 4 + x) - 1; rw [show 0 * 4 + x = x by omega]) t⟩
    · exact rs_learnK hT hc (H _ _ (rs_W_k hV' rfl) (Or.inl ⟨rfl, rfl⟩))
  · rcases hk with ⟨rfl, rfl⟩ | ⟨rfl, hK, hR⟩
    · exact rs_learnN hT hc (H _ _ ⟨hV', Or.inr ⟨rfl, fun post hp => rs_learnN hT hc hp⟩⟩ (Or.inr ⟨rfl, fun z => absurd (show (0 : Int32) = 1 from z) (by decide)⟩))
    · exact absurd hK.1 hc
theorem rs_learnB {post : Int32 → St1 → Prop} {u : St1} (hW : rs_W u) (H : ∀ r, rs_an r (u.2.1 = 1) → post r u) : wpX_learn post u := by
  rcases hW.2 with ⟨e, h⟩ | ⟨e, h⟩
  · exact h post (H 1 (Or.inl ⟨rfl, e⟩))
  · exact h post (H 0 (Or.inr ⟨rfl, fun z => absurd (e.symm.trans z) (by decide)⟩))
section
variable {c kn pc rn sc : Int32} {a1 a2 a3 a4 a5 a6 a7 a8 : Nat → Int32}
theorem rs_fixC {post : Int32 → St1 → Prop} {x : Nat} {r : Int32} (hx : x < 4) (ha : rs_an r (kn = 1)) (H : ∀ r', rs_an r' (rs_fx (c, kn, pc, rn, sc, a1, a2, a3, a4, a5, a6, a7, a8) x) → post r' (c, kn, pc, rn, sc, a1, a2, a3, a4, a5, a6, a7, a8)) :
    (r = 0 → post 0 (c, kn, pc, rn, sc, a1, a2, a3, a4, a5, a6, a7, a8)) ∧ (¬ r = 0 → vp_in (nI x) 84 ∧ ((a3 (nI x).toNatClampNeg = -1 → post 0 (c, kn, pc, rn, sc, a1, a2, a3, a4, a5, a6, a7, a8)) ∧ (¬ a3 (nI x).toNatClampNeg = -1 → post 1 (c, kn, pc, rn, sc, a1, a2, a3, a4, a5, a6, a7, a8)))) := by
  rw [nI_clamp (show x < 2 ^ 31 by omega)]
  rcases ha with ⟨rfl, h⟩ | ⟨rfl, h⟩
  · exact br_f (by decide) ⟨pk_in x 84 (by omega), fun z => H 0 (Or.inr ⟨rfl, fun g => g.2 z⟩), fun z => H 1 (Or.inl ⟨rfl, h, z⟩)⟩
  · exact br_t rfl (H 0 (Or.inr ⟨rfl, fun g => h g.1⟩))
end
theorem rs_fixedA {post : Int32 → St1 → Prop} {u : St1} {x : Nat} (hV : rs_V u) (hx : x < 4) (H : ∀ u' r, rs_W u' → rs_an r (rs_fx u' x) → post r u') : wpX_fixed post u (nI x) := by
  obtain ⟨c, kn, pc, rn, sc, a1, a2, a3, a4, a5, a6, a7, a8⟩ := u
  unfold wpX_fixed
  dsimp only
  refine rs_isRole hx (br_f (by decide) (rs_learnA hV (fun u' r hW ha => ?_)))
  obtain ⟨c', kn', pc', rn', sc', b1, b2, b3, b4, b5, b6, b7, b8⟩ := u'
  exact rs_fixC hx ha (fun r' h => H _ r' hW h)
theorem rs_fixedB {post : Int32 → St1 → Prop} {u : St1} {x : Nat} (hW : rs_W u) (hx : x < 4) (H : ∀ r, rs_an r (rs_fx u x) → post r u) : wpX_fixed post u (nI x) := by
  obtain ⟨c, kn, pc, rn, sc, a1, a2, a3, a4, a5, a6, a7, a8⟩ := u
  unfold wpX_fixed
  dsimp only
  refine rs_isRole hx (br_f (by decide) (rs_learnB hW (fun r ha => ?_)))
  exact rs_fixC hx ha (fun r' h => H r' h)
theorem rs_fitG {post : Int32 → St1 → Prop} {u : St1} {Rel : St1 → Prop} (h : ∀ post : Int32 → St1 → Prop, (∀ u' r, rs_W u' → Rel u' → rs_an r (rs_fx u' 0) → post r u') → wpX_fixed post u 0)
    (H : ∀ u' r, rs_W u' → Rel u' → rs_an r (∀ x, x < 4 → rs_fx u' x) → post r u') : wpX_fit post u := by
  obtain ⟨c, kn, pc, rn, sc, a1, a2, a3, a4, a5, a6, a7, a8⟩ := u
  unfold wpX_fit
  dsimp only
  refine h _ (fun u' r hW hR ha => ?_)
  have no : ∀ x, x < 4 → ¬ rs_fx u' x → post 0 u' := fun x hx hf => H _ 0 hW hR (Or.inr ⟨rfl, fun z => hf (z x hx)⟩)
  have yes := H u' 1 hW hR
  obtain ⟨c', kn', pc', rn', sc', b1, b2, b3, b4, b5, b6, b7, b8⟩ := u'
  rcases ha with ⟨rfl, f0⟩ | ⟨rfl, f0⟩
  · refine br_f (by decide) (rs_fixedB (x := 1) hW (by omega) (fun r ha => ?_))
    rcases ha with ⟨rfl, f1⟩ | ⟨rfl, f1⟩
    · refine br_f (by decide) (rs_fixedB (x := 2) hW (by omega) (fun r ha => ?_))
      rcases ha with ⟨rfl, f2⟩ | ⟨rfl, f2⟩
      · refine br_f (by decide) (rs_fixedB (x := 3) hW (by omega) (fun r ha => ?_))
        rcases ha with ⟨rfl, f3⟩ | ⟨rfl, f3⟩
        · exact br_f (by decide) (yes (Or.inl ⟨rfl, fun x hx => co_4 (P := fun x => rs_fx (c', kn', pc', rn', sc', b1, b2, b3, b4, b5, b6, b7, b8) x) f0 f1 f2 f3 hx⟩))
        · exact br_t rfl (no 3 (by omega) f3)
      · exact br_t rfl (no 2 (by omega) f2)
    · exact br_t rfl (no 1 (by omega) f1)
  · exact br_t rfl (no 0 (by omega) f0)
theorem rs_fitA {post : Int32 → St1 → Prop} {u : St1} (hV : rs_V u) (H : ∀ u' r, rs_W u' → rs_an r (∀ x, x < 4 → rs_fx u' x) → post r u') : wpX_fit post u :=
  rs_fitG (Rel := fun _ => True) (fun post h => rs_fixedA (x := 0) hV (by omega) (fun u' r hW ha => h u' r hW trivial ha)) (fun u' r hW _ ha => H u' r hW ha)
theorem rs_fitB {post : Int32 → St1 → Prop} {u : St1} (hW : rs_W u) (H : ∀ r, rs_an r (∀ x, x < 4 → rs_fx u x) → post r u) : wpX_fit post u :=
  rs_fitG (Rel := fun u' => u' = u) (fun post h => rs_fixedB (x := 0) hW (by omega) (fun r ha => h u r hW rfl ha)) (fun u' r hW' e ha => by subst e; exact H r ha)
section
variable {c kn pc rn sc : Int32} {a1 a2 a3 a4 a5 a6 a7 a8 : Nat → Int32}
theorem rs_V_sz {x : Nat} (hV : rs_V (c, kn, pc, rn, sc, a1, a2, a3, a4, a5, a6, a7, a8)) (hx : x < 4) (hf : rs_fx (c, kn, pc, rn, sc, a1, a2, a3, a4, a5, a6, a7, a8) x) : vp_in (a3 x) 48 ∧ ¬ a7 (a3 x).toNatClampNeg < 0 := by
  obtain ⟨n, P, kn, rn, sc, T, S, Q, D, C, F, Z, R, e, hT, hz, h⟩ := hV
  cases e
  obtain ⟨f1, f2⟩ := hf
  have f1' : kn = 1 := f1
  have f2' : ¬ rs_q (Q x) = -1 := f2
  rcases h with h | ⟨h, hK, hR⟩
  · exact absurd (h.1.symm.trans f1') (by decide)
  · have q0 : Q x ≠ 0 := fun z => f2' (by rw [z]; rfl)
    have q1 := hK.2.2.2.1 x hx
    have hP := hK.2.2.1
    have e3 : rs_b Q x = nI (Q x - 1) := rs_q_pos q0
    have hzz := rs_TB_Z hK.2.1 (show Q x - 1 < P by omega)
    rw [e3]
    refine ⟨pk_in (Q x - 1) 48 (by omega), ?_⟩
    rw [rs_at Z (Q x - 1) rfl (by omega)]
    exact nI_pos (by omega)
theorem rs_sizeB {post : Int32 → St1 → Prop} {x : Nat} (hW : rs_W (c, kn, pc, rn, sc, a1, a2, a3, a4, a5, a6, a7, a8)) (hx : x < 4)
    (h1 : rs_fx (c, kn, pc, rn, sc, a1, a2, a3, a4, a5, a6, a7, a8) x → ¬ a7 (a3 x).toNatClampNeg < 0 → post (a7 (a3 x).toNatClampNeg) (c, kn, pc, rn, sc, a1, a2, a3, a4, a5, a6, a7, a8))
    (h0 : ¬ rs_fx (c, kn, pc, rn, sc, a1, a2, a3, a4, a5, a6, a7, a8) x → post (-1) (c, kn, pc, rn, sc, a1, a2, a3, a4, a5, a6, a7, a8)) :
    wpX_size post (c, kn, pc, rn, sc, a1, a2, a3, a4, a5, a6, a7, a8) (nI x) := by
  unfold wpX_size
  dsimp only
  refine rs_fixedB hW hx (fun r ha => ?_)
  rcases ha with ⟨rfl, f⟩ | ⟨rfl, f⟩
  · have t := rs_V_sz hW.1 hx f
    refine br_f (by decide) ⟨pk_in x 84 (by omega), ?_⟩
    rw [nI_clamp (show x < 2 ^ 31 by omega)]
    exact ⟨t.1, h1 f t.2⟩
  · exact br_t rfl (h0 f)
theorem rs_s21 {post : Int32 → St1 → Prop} {Q : Nat → Nat} (hq : ∀ x, x < 4 → Q x ≠ 0 ∧ Q x ≤ 43)
    (H : ∀ R : Nat → Nat, (∀ y, y < 4 → R y = Q y - 1) → post 1 (c, kn, pc, rn, sc, a1, a2, rs_b Q, a4, a5, a6, a7, rs_a R)) :
    ∀ (fu x : Nat) (R : Nat → Nat), x ≤ 4 → 4 - x < fu → (∀ y, y < x → R y = Q y - 1) → wX_start_21 post c kn pc rn sc fu (nI x) a1 a2 (rs_b Q) a4 a5 a6 a7 (rs_a R) := by
  intro fu
  induction fu with
  | zero => intro x R h1 h2; omega
  | succ fu ih =>
    intro x R h1 h2 hr
    refine pk_le 4 x (fun z => H R (fun y hy => hr y (by omega))) (fun z => ⟨pk_in x 84 (by omega), pk_in x 4 z, nm_r (e' := rs_a (rs_u R x (Q x - 1))) ?_ (nm_r (nI_1 x) (ih (x + 1) _ (by omega) (by omega) (fun y hy => ?_)))⟩)
    · obtain ⟨q0, q1⟩ := hq x z
      rw [rs_bt Q x rfl (by omega), nI_clamp (by omega), vp_nar_byte, rs_q_pos q0, rs_byte _ (by omega), rs_au]
    · by_cases e : y = x
      · rw [e, rs_us]
      · rw [rs_un e]
        exact hr y (by omega)
end
theorem rs_startB {post : Int32 → St1 → Prop} {u : St1} (hW : rs_W u) (H0 : ¬ (∀ x, x < 4 → rs_fx u x) → post 0 u)
    (H1 : (∀ x, x < 4 → rs_fx u x) → ∀ (c pc : Int32) (a1 a2 a3 a4 a5 a6 a7 a8 : Nat → Int32), rs_W (c, 1, pc, 1, 0, a1, a2, a3, a4, a5, a6, a7, a8) → (∀ x, x < 4 → rs_fx (c, 1, pc, 1, 0, a1, a2, a3, a4, a5, a6, a7, a8) x) → (∀ x, x < 4 → a8 x = a3 x) → post 1 (c, 1, pc, 1, 0, a1, a2, a3, a4, a5, a6, a7, a8)) :
    wpX_start post u := by
  have hW' := hW
  obtain ⟨n, P, kn, rn, sc, T, S, Q, D, C, F, Z, R, rfl, hT, hz, hk⟩ := hW.1
  unfold wpX_start
  dsimp only
  refine rs_fitB hW (fun r ha => ?_)
  rcases ha with ⟨rfl, f⟩ | ⟨rfl, f⟩
  · refine br_f (by decide) ⟨5, ?_⟩
    have k1 : kn = 1 := (f 0 (by omega)).1
    subst k1
    rcases hk with h | ⟨_, hK, hR⟩
    · exact absurd h.1 (by decide)
    · have q0 : ∀ x, x < 4 → Q x ≠ 0 := fun x hx z => (f x hx).2 (by show rs_q (Q x) = -1; rw [z]; rfl)
      have hP := hK.2.2.1
      refine rs_s21 (fun x hx => ⟨q0 x hx, by have := hK.2.2.2.1 x hx; omega⟩) (fun R' hR' => ?_) 5 0 R (by omega) (by omega) (fun y hy => absurd hy (by omega))
      refine H1 f _ _ _ _ _ _ _ _ _ _ (rs_W_k ⟨n, P, 1, 1, 0, T, S, Q, D, C, F, Z, R', rfl, hT, hz, Or.inr ⟨rfl, hK, Or.inr ⟨rfl, fun x hx => ?_, ?_⟩⟩⟩ rfl) (fun x hx => ⟨rfl, (f x hx).2⟩) (fun x hx => ?_)
      · have := hK.2.2.2.1 x hx
        have := q0 x hx
        rw [hR' x hx]
        omega
      · obtain ⟨m, g⟩ := hK.2.2.2.2 q0
        exact ⟨m, rs_G_cong m hR' g⟩
      · show nI (R' x) = rs_q (Q x)
        rw [hR' x hx, rs_q_pos (q0 x hx)]
  · exact br_t rfl (H0 f)
end
section
theorem rs_an_eq {r s : Int32} {p q : Prop} (h : rs_an r p) (h2 : rs_an s q) (e : p ↔ q) : r = s := by
  rcases h with ⟨rfl, a⟩ | ⟨rfl, a⟩
  · rcases h2 with ⟨rfl, b⟩ | ⟨rfl, b⟩
    · rfl
    · exact absurd (e.mp a) b
  · rcases h2 with ⟨rfl, b⟩ | ⟨rfl, b⟩
    · exact absurd (e.mpr b) a
    · rfl
section
variable {c kn pc rn sc : Int32} {a1 a2 a3 a4 a5 a6 a7 a8 : Nat → Int32}
theorem rs_ro28 {post : Int32 → St1 → Prop} {J4 : Int32 → Int32 → Int32 → Int32 → Int32 → Int32 → Int32 → (Nat → Int32) → (Nat → Int32) → (Nat → Int32) → (Nat → Int32) → (Nat → Int32) → (Nat → Int32) → (Nat → Int32) → (Nat → Int32) → Prop} {x : Nat} {x3 z0 : Int32} (hW : rs_W (c, kn, pc, rn, sc, a1, a2, a3, a4, a5, a6, a7, a8)) (hx : x < 4) (ha : rs_an x3 (rs_fx (c, kn, pc, rn, sc, a1, a2, a3, a4, a5, a6, a7, a8) x))
    (hJ : J4 z0 (nI (x + 1)) c kn pc rn sc a1 a2 a3 a4 a5 a6 a7 a8) : wL_roles_28 post J4 (nI x) x3 z0 c kn pc rn sc a1 a2 a3 a4 a5 a6 a7 a8 := by
  unfold wL_roles_28
  refine rs_sizeB hW hx (fun f hz => ?_) (fun f => ?_)
  · refine br_f hz ?_
    rcases ha with ⟨rfl, _⟩ | ⟨rfl, h⟩
    · exact br_t rfl (nm_r (nI_1 x) hJ)
    · exact absurd f h
  · refine br_t (by decide) ?_
    rcases ha with ⟨rfl, h⟩ | ⟨rfl, h⟩
    · exact absurd h f
    · exact br_t rfl (nm_r (nI_1 x) hJ)
theorem rs_ro4 {post : Int32 → St1 → Prop} (hW : rs_W (c, kn, pc, rn, sc, a1, a2, a3, a4, a5, a6, a7, a8)) (hp : post 1 (c, kn, pc, rn, sc, a1, a2, a3, a4, a5, a6, a7, a8)) :
    ∀ (fu x : Nat) (x1 : Int32), x ≤ 4 → 4 - x < fu → rs_an x1 (∀ y, y < x → rs_fx (c, kn, pc, rn, sc, a1, a2, a3, a4, a5, a6, a7, a8) y) → wL_roles_4 post fu x1 (nI x) c kn pc rn sc a1 a2 a3 a4 a5 a6 a7 a8 := by
  intro fu
  induction fu with
  | zero => intro x x1 h1 h2; omega
  | succ fu ih =>
    intro x x1 h1 h2 h3
    refine pk_le 4 x (fun z => rs_fitB hW (fun r ha => ?_)) (fun z => rs_fixedB hW z (fun r ha => ?_))
    · have e : x = 4 := by omega
      subst e
      exact br_t (rs_an_eq ha h3 Iff.rfl) hp
    · rcases h3 with ⟨rfl, g⟩ | ⟨rfl, g⟩
      · refine br_f (by decide) ?_
        rcases ha with ⟨rfl, f⟩ | ⟨rfl, f⟩
        · exact br_f (by decide) (rs_ro28 hW z (Or.inl ⟨rfl, f⟩) (ih (x + 1) 1 (by omega) (by omega) (Or.inl ⟨rfl, lt_s g f⟩)))
        · exact br_t rfl (rs_ro28 hW z (Or.inr ⟨rfl, f⟩) (ih (x + 1) 0 (by omega) (by omega) (Or.inr ⟨rfl, fun t => f (t x (by omega))⟩)))
      · exact br_t rfl (rs_ro28 hW z ha (ih (x + 1) 0 (by omega) (by omega) (Or.inr ⟨rfl, fun t => g (fun y hy => t y (by omega))⟩)))
end
theorem rs_roles {post : Int32 → St1 → Prop} {u : St1} (hV : rs_V u) (H : ∀ u', rs_W u' → post 1 u') : wpL_roles post u := by
  obtain ⟨c, kn, pc, rn, sc, a1, a2, a3, a4, a5, a6, a7, a8⟩ := u
  refine ⟨5 + 1, ?_⟩
  refine br_f (by decide) (rs_fixedA (x := 0) hV (by omega) (fun u' r hW ha => ?_))
  have hp := H u' hW
  obtain ⟨c', kn', pc', rn', sc', b1, b2, b3, b4, b5, b6, b7, b8⟩ := u'
  refine br_f (by decide) ?_
  rcases ha with ⟨rfl, f⟩ | ⟨rfl, f⟩
  · exact br_f (by decide) (rs_ro28 (x := 0) hW (by omega) (Or.inl ⟨rfl, f⟩) (rs_ro4 hW hp 5 1 1 (by omega) (by omega) (Or.inl ⟨rfl, lt_s lt_0 f⟩)))
  · exact br_t rfl (rs_ro28 (x := 0) hW (by omega) (Or.inr ⟨rfl, f⟩) (rs_ro4 hW hp 5 1 0 (by omega) (by omega) (Or.inr ⟨rfl, fun t => f (t 0 (by omega))⟩)))
end
section
/-! a running object: possible, duty, labels, rest, over, choices; now -/
def rs_ct (pb : Nat → Nat → Nat → Bool) : Nat → Nat
  | 0 => 0
  | k + 1 => rs_ct pb k + (pb (k / 8) (k / 2 % 4) (k % 2)).toNat
theorem rs_ct_s (pb : Nat → Nat → Nat → Bool) (k : Nat) : rs_ct pb (k + 1) = rs_ct pb k + (pb (k / 8) (k / 2 % 4) (k % 2)).toNat := rfl
theorem rs_ct_le (pb : Nat → Nat → Nat → Bool) : ∀ k, rs_ct pb k ≤ k
  | 0 => Nat.le_refl 0
  | k + 1 => by
    have h := rs_ct_le pb k
    have h2 : (pb (k / 8) (k / 2 % 4) (k % 2)).toNat ≤ 1 := Bool.toNat_le _
    rw [rs_ct_s]
    omega
theorem rs_ct_mono (pb : Nat → Nat → Nat → Bool) (k : Nat) : ∀ j, rs_ct pb k ≤ rs_ct pb (k + j)
  | 0 => Nat.le_refl _
  | j + 1 => by
    have h := rs_ct_mono pb k j
    rw [show k + (j + 1) = (k + j) + 1 by omega, rs_ct_s]
    omega
theorem rs_ct_0 (pb : Nat → Nat → Nat → Bool) (r s : Nat) (hs : s < 4) : rs_ct pb (8 * r + 2 * s + 1) = rs_ct pb (8 * r + 2 * s) + (pb r s 0).toNat := by
  rw [rs_ct_s, show (8 * r + 2 * s) / 8 = r by omega, show (8 * r + 2 * s) / 2 % 4 = s by omega, show (8 * r + 2 * s) % 2 = 0 by omega]
theorem rs_ct_1 (pb : Nat → Nat → Nat → Bool) (r s : Nat) (hs : s < 4) : rs_ct pb (8 * r + 2 * (s + 1)) = rs_ct pb (8 * r + 2 * s + 1) + (pb r s 1).toNat := by
  rw [show 8 * r + 2 * (s + 1) = (8 * r + 2 * s + 1) + 1 by omega, rs_ct_s, show (8 * r + 2 * s + 1) / 8 = r by omega, show (8 * r + 2 * s + 1) / 2 % 4 = s by omega, show (8 * r + 2 * s + 1) % 2 = 1 by omega]
theorem rs_ct_pos {pb : Nat → Nat → Nat → Bool} {r s : Nat} (hr : r < 4) (hs : s < 4) (h : pb r s 0 = true) : 0 < rs_ct pb 32 := by
  have e := rs_ct_0 pb r s hs
  have m := rs_ct_mono pb (8 * r + 2 * s + 1) (32 - (8 * r + 2 * s + 1))
  rw [show 8 * r + 2 * s + 1 + (32 - (8 * r + 2 * s + 1)) = 32 by omega] at m
  rw [h] at e
  have : (true).toNat = 1 := rfl
  omega
theorem rs_cN : ∀ k, k < 32 → nI k >>> ((3 : Int32) &&& 31) = nI (k / 8) ∧ (nI k >>> ((1 : Int32) &&& 31)) &&& 3 = nI (k / 2 % 4) ∧ nI k &&& 1 = nI (k % 2) := by decide +kernel
section
variable {c kn pc rn sc : Int32} {a1 a2 a3 a4 a5 a6 a7 a8 : Nat → Int32}
theorem rs_ch32 {post : Int32 → Prop} {J4 J11 : Int32 → Int32 → Prop} {pb : Nat → Nat → Nat → Bool} {r s : Nat} {z0 : Int32}
    (hpb : ∀ r s l, r < 4 → s < 4 → l < 2 → ∀ post : Int32 → Prop, (pb r s l = true → post 1) → (pb r s l = false → post 0) → wpX_possible post (c, kn, pc, rn, sc, a1, a2, a3, a4, a5, a6, a7, a8) (nI r) (nI s) (nI l))
    (hr : r < 4) (hs : s < 4) (hz : nI (rs_ct pb (8 * r + 2 * s)) + z0 = nI (rs_ct pb (8 * r + 2 * s + 1))) (hJ : J11 (nI (rs_ct pb (8 * r + 2 * (s + 1)))) (nI (s + 1))) :
    wX_choices_32 post J4 J11 (nI r) (nI s) z0 (nI (rs_ct pb (8 * r + 2 * s))) c kn pc rn sc a1 a2 a3 a4 a5 a6 a7 a8 := by
  refine nm_r hz (hpb r s 1 hr hs (by omega) _ (fun p => br_f (by decide) (nm_r ?_ (nm_r (nI_1 s) hJ))) (fun p => br_t rfl (nm_r ?_ (nm_r (nI_1 s) hJ))))
  · rw [rs_ct_1 pb r s hs, p]
    exact nI_1 _
  · rw [rs_ct_1 pb r s hs, p]
    exact nI_add _ 0
theorem rs_ch11 {post : Int32 → Prop} {J4 : Int32 → Int32 → Prop} {pb : Nat → Nat → Nat → Bool} {r : Nat}
    (hpb : ∀ r s l, r < 4 → s < 4 → l < 2 → ∀ post : Int32 → Prop, (pb r s l = true → post 1) → (pb r s l = false → post 0) → wpX_possible post (c, kn, pc, rn, sc, a1, a2, a3, a4, a5, a6, a7, a8) (nI r) (nI s) (nI l))
    (hr : r < 4) (hJ : J4 (nI (rs_ct pb (8 * (r + 1)))) (nI (r + 1))) :
    ∀ fu s, s ≤ 4 → 4 - s < fu → wX_choices_11 post J4 (nI r) c kn pc rn sc a1 a2 a3 a4 a5 a6 a7 a8 fu (nI (rs_ct pb (8 * r + 2 * s))) (nI s) := by
  intro fu
  induction fu with
  | zero => intro s h1 h2; omega
  | succ fu ih =>
    intro s h1 h2
    refine pk_le 4 s (fun z => nm_r (nI_1 r) ?_) (fun z => hpb r s 0 hr z (by omega) _ (fun p => br_f (by decide) (rs_ch32 hpb hr z ?_ (ih (s + 1) (by omega) (by omega)))) (fun p => br_t rfl (rs_ch32 hpb hr z ?_ (ih (s + 1) (by omega) (by omega)))))
    · rw [show 8 * r + 2 * s = 8 * (r + 1) by omega]
      exact hJ
    · rw [rs_ct_0 pb r s z, p]
      exact nI_1 _
    · rw [rs_ct_0 pb r s z, p]
      exact nI_add _ 0
theorem rs_ch4 {post : Int32 → Prop} {pb : Nat → Nat → Nat → Bool}
    (hpb : ∀ r s l, r < 4 → s < 4 → l < 2 → ∀ post : Int32 → Prop, (pb r s l = true → post 1) → (pb r s l = false → post 0) → wpX_possible post (c, kn, pc, rn, sc, a1, a2, a3, a4, a5, a6, a7, a8) (nI r) (nI s) (nI l))
    (h : post (nI (rs_ct pb 32))) :
    ∀ fu r, r ≤ 4 → 4 - r < fu → wX_choices_4 post c kn pc rn sc a1 a2 a3 a4 a5 a6 a7 a8 fu (nI (rs_ct pb (8 * r))) (nI r) := by
  intro fu
  induction fu with
  | zero => intro s h1 h2; omega
  | succ fu ih =>
    intro r h1 h2
    refine pk_le 4 r (fun z => ?_) (fun z => ⟨5, ?_⟩)
    · rw [show 8 * r = 32 by omega]
      exact h
    · exact rs_ch11 hpb z (ih (r + 1) (by omega) (by omega)) 5 0 (by omega) (by omega)
theorem rs_choices {post : Int32 → Prop} {pb : Nat → Nat → Nat → Bool}
    (hpb : ∀ r s l, r < 4 → s < 4 → l < 2 → ∀ post : Int32 → Prop, (pb r s l = true → post 1) → (pb r s l = false → post 0) → wpX_possible post (c, kn, pc, rn, sc, a1, a2, a3, a4, a5, a6, a7, a8) (nI r) (nI s) (nI l))
    (h : post (nI (rs_ct pb 32))) : wpX_choices post (c, kn, pc, rn, sc, a1, a2, a3, a4, a5, a6, a7, a8) :=
  ⟨5, rs_ch4 hpb h 5 0 (by omega) (by omega)⟩
/-- now's last row -/
theorem rs_now164 {post : Int32 → Prop} {N : Nat} {z x y : Int32} {p : Prop} (hN : N < 2 ^ 31) (hz : rs_an z p) (hp : post 1) (e : y = x) (hrn : rn = 0 ∨ (rn = 1 ∧ (¬ p → 0 < N))) :
    wL_now_164 post (nI N) z x y c kn pc rn sc a1 a2 a3 a4 a5 a6 a7 a8 := by
  refine br_t e ?_
  rcases hrn with rfl | ⟨rfl, h⟩
  · exact ⟨rfl, br_t rfl hp⟩
  · refine ⟨rfl, br_f (by decide) ?_⟩
    rcases hz with ⟨rfl, g⟩ | ⟨rfl, g⟩
    · exact br_f (by decide) hp
    · exact br_t rfl (br_f (nI_nle (h g) hN) hp)
theorem rs_now135 {post : Int32 → Prop} {pb : Nat → Nat → Nat → Bool} {z ov : Int32} {p : Prop}
    (hpb : ∀ r s l, r < 4 → s < 4 → l < 2 → ∀ post : Int32 → Prop, (pb r s l = true → post 1) → (pb r s l = false → post 0) → wpX_possible post (c, kn, pc, rn, sc, a1, a2, a3, a4, a5, a6, a7, a8) (nI r) (nI s) (nI l))
    (hov : ∀ post : Int32 → Prop, post ov → wpX_over post (c, kn, pc, rn, sc, a1, a2, a3, a4, a5, a6, a7, a8))
    (hrn : (rn = 0 ∧ ov = 0) ∨ (rn = 1 ∧ rs_an ov p ∧ (¬ p → 0 < rs_ct pb 32))) (hz : rs_an z p) (hp : post 1) :
    wL_now_135 post (nI (rs_ct pb 32)) z c kn pc rn sc a1 a2 a3 a4 a5 a6 a7 a8 := by
  have hN : rs_ct pb 32 < 2 ^ 31 := by have := rs_ct_le pb 32; omega
  unfold wL_now_135
  refine rs_choices hpb (br_t rfl (hov _ ?_))
  rcases hrn with ⟨rfl, rfl⟩ | ⟨rfl, ho, hc⟩
  · exact ⟨rfl, br_t rfl (rs_now164 hN hz hp rfl (Or.inl rfl))⟩
  · refine ⟨rfl, br_f (by decide) ?_⟩
    have e := rs_an_eq ho hz Iff.rfl
    rcases hz with ⟨rfl, g⟩ | ⟨rfl, g⟩
    · exact br_f (by decide) (rs_now164 hN (Or.inl ⟨rfl, g⟩) hp e (Or.inr ⟨rfl, hc⟩))
    · exact br_t rfl (rs_now164 hN (Or.inr ⟨rfl, g⟩) hp e (Or.inr ⟨rfl, hc⟩))
theorem rs_now4 {post : Int32 → Prop} {pb : Nat → Nat → Nat → Bool} {ov : Int32} {du la : Nat → Int32}
    (hpb : ∀ r s l, r < 4 → s < 4 → l < 2 → ∀ post : Int32 → Prop, (pb r s l = true → post 1) → (pb r s l = false → post 0) → wpX_possible post (c, kn, pc, rn, sc, a1, a2, a3, a4, a5, a6, a7, a8) (nI r) (nI s) (nI l))
    (hov : ∀ post : Int32 → Prop, post ov → wpX_over post (c, kn, pc, rn, sc, a1, a2, a3, a4, a5, a6, a7, a8))
    (hdu : ∀ x, x < 4 → ∀ post : Int32 → Prop, post (du x) → wpX_duty post (c, kn, pc, rn, sc, a1, a2, a3, a4, a5, a6, a7, a8) (nI x))
    (hla : ∀ x, x < 4 → ∀ post : Int32 → Prop, post (la x) → wpX_labels post (c, kn, pc, rn, sc, a1, a2, a3, a4, a5, a6, a7, a8) (nI x))
    (hok : ∀ r s l, r < 4 → s < 4 → l < 2 → pb r s l = true → du r = 1 + nI s ∧ du s = 5 + nI r ∧ la r = la s ∧ nI l < la r)
    (hrn : (rn = 0 ∧ ov = 0) ∨ (rn = 1 ∧ rs_an ov (∀ x, x < 4 → du x = 0) ∧ (¬ (∀ x, x < 4 → du x = 0) → 0 < rs_ct pb 32))) (hp : post 1) :
    ∀ fu k, k ≤ 32 → 32 - k < fu → wL_now_4 post c kn pc rn sc a1 a2 a3 a4 a5 a6 a7 a8 fu (nI (rs_ct pb k)) (nI k) := by
  intro fu
  induction fu with
  | zero => intro k h1 h2; omega
  | succ fu ih =>
    intro k h1 h2
    refine pk_le 32 k (fun z => ?_) (fun z => ?_)
    · rw [show k = 32 by omega]
      have no : ∀ x, x < 4 → ¬ du x = 0 → wL_now_134 post (nI (rs_ct pb 32)) c kn pc rn sc a1 a2 a3 a4 a5 a6 a7 a8 := fun x hx h =>
        rs_now135 hpb hov hrn (Or.inr ⟨rfl, fun t => h (t x hx)⟩) hp
      refine hdu 0 (by omega) _ (br_c (fun d0 => ?_) (no 0 (by omega)))
      refine hdu 1 (by omega) _ (br_c (fun d1 => ?_) (no 1 (by omega)))
      refine hdu 2 (by omega) _ (br_c (fun d2 => ?_) (no 2 (by omega)))
      refine hdu 3 (by omega) _ (br_c (fun d3 => ?_) (no 3 (by omega)))
      exact rs_now135 hpb hov hrn (Or.inl ⟨rfl, fun x hx => co_4 (P := fun x => du x = 0) d0 d1 d2 d3 hx⟩) hp
    · obtain ⟨e1, e2, e3⟩ := rs_cN k z
      have next := ih (k + 1) (by omega) (by omega)
      rw [rs_ct_s] at next
      refine nm_r e1 (nm_r e2 (nm_r e3 ?_))
      refine hpb (k / 8) (k / 2 % 4) (k % 2) (by omega) (by omega) (by omega) _ (fun p => br_f (by decide) ?_) (fun p => br_t rfl (nm_r (nI_1 k) ?_))
      · obtain ⟨g1, g2, g3, g4⟩ := hok (k / 8) (k / 2 % 4) (k % 2) (by omega) (by omega) (by omega) p
        rw [p] at next
        refine nm_r (nI_1 _) ?_
        refine hdu (k / 8) (by omega) _ (br_t g1 ?_)
        refine hdu (k / 2 % 4) (by omega) _ (br_t g2 ?_)
        refine hla (k / 8) (by omega) _ ?_
        refine hla (k / 2 % 4) (by omega) _ (br_t g3 ?_)
        exact hla (k / 8) (by omega) _ (br_t g4 (nm_r (nI_1 k) next))
      · rw [p] at next
        exact next
end
section
variable {c kn pc sc : Int32} {a1 a2 a3 a4 a5 a6 a7 : Nat → Int32}
def rs_B (D C R : Nat → Nat) : Prop := ∀ x, x < 4 → R x < 48 ∧ (R x ≠ 0 → 1 ≤ D (R x) ∧ D (R x) ≤ 8 ∧ C (R x) ≤ 2)
theorem rs_poss {post : Int32 → Prop} {r s l : Nat} {D C R : Nat → Nat} (hB : rs_B D C R) (hr : r < 4) (hs : s < 4) (hl : l < 2) (H1 : rs_P D C R r s l → post 1) (H0 : ¬ rs_P D C R r s l → post 0) :
    wpX_possible post (c, kn, pc, 1, sc, a1, a2, a3, rs_a D, rs_a C, a6, a7, rs_a R) (nI r) (nI s) (nI l) := by
  obtain ⟨r1, r2⟩ := hB r hr
  obtain ⟨s1, s2⟩ := hB s hs
  unfold wpX_possible
  dsimp only
  refine br_f (by decide) (rs_isRole hr (br_f (by decide) (rs_isRole hs (br_f (by decide) (br_t (nI_pos' (by omega)) ⟨pk_in r 4 hr, nm_r (rs_at R r rfl (by omega)) ⟨pk_in s 4 hs, nm_r (rs_at R s rfl (by omega)) ?_⟩⟩)))))
  rw [rs_at D (R r) rfl (by omega), rs_at D (R s) rfl (by omega), show (1 : Int32) = nI 1 from rfl, show (5 : Int32) = nI 5 from rfl, nI_add, nI_add]
  have no : ¬ rs_P D C R r s l → wX_possible_83 post (nI l) (nI (R r)) (nI (R s)) c kn pc (nI 1) sc a1 a2 a3 (rs_a D) (rs_a C) a6 a7 (rs_a R) := fun h => br_t rfl (H0 h)
  refine pk_eq (R r) 0 (fun z => no (fun h => h.1 z)) (fun z1 => ⟨pk_in (R r) 48 r1, pk_eq (D (R r)) (1 + s) (fun z2 => pk_eq (R s) 0 (fun z => no (fun h => h.2.1 z)) (fun z3 => ⟨pk_in (R s) 48 s1, pk_eq (D (R s)) (5 + r) (fun z4 => ?_) (fun z => no (fun h => z h.2.2.2.1))⟩)) (fun z => no (fun h => z h.2.2.1))⟩)
  refine br_f (by decide) ⟨pk_in (R r) 48 r1, ?_⟩
  rw [rs_at C (R r) rfl (by omega), rs_at C (R s) rfl (by omega)]
  exact pk_le (C (R r)) l (fun z => H0 (fun h => absurd h.2.2.2.2.1 (by omega))) (fun z5 => ⟨pk_in (R s) 48 s1, pk_le (C (R s)) l (fun z => H0 (fun h => absurd h.2.2.2.2.2 (by omega))) (fun z6 => H1 ⟨z1, z3, z2, z4, z5, z6⟩)⟩)
theorem rs_rest1 {post : Int32 → Prop} {x : Nat} {Z R : Nat → Nat} (hx : x < 4) (hR : R x < 48) (h : post (nI (Z (R x)))) : wpX_rest post (c, kn, pc, 1, sc, a1, a2, a3, a4, a5, a6, rs_a Z, rs_a R) (nI x) := by
  unfold wpX_rest
  dsimp only
  refine br_f (by decide) (rs_isRole hx (br_f (by decide) ⟨pk_in x 4 hx, ?_⟩))
  rw [rs_at R x rfl (by omega), rs_at Z (R x) rfl (by omega)]
  exact ⟨pk_in (R x) 48 hR, h⟩
theorem rs_duty1 {post : Int32 → Prop} {x : Nat} {D R : Nat → Nat} (hx : x < 4) (hR : R x < 48) (h : post (nI (if R x = 0 then 0 else D (R x)))) : wpX_duty post (c, kn, pc, 1, sc, a1, a2, a3, rs_a D, a5, a6, a7, rs_a R) (nI x) := by
  unfold wpX_duty
  dsimp only
  refine br_f (by decide) (rs_isRole hx (br_f (by decide) ⟨pk_in x 4 hx, ?_⟩))
  rw [rs_at R x rfl (by omega), rs_at D (R x) rfl (by omega)]
  refine pk_eq (R x) 0 (fun z => ?_) (fun z => ⟨pk_in x 4 hx, pk_in (R x) 48 hR, ?_⟩)
  · rw [if_pos z] at h
    exact h
  · rw [if_neg z] at h
    exact h
theorem rs_labels1 {post : Int32 → Prop} {x : Nat} {C R : Nat → Nat} (hx : x < 4) (hR : R x < 48) (h : post (nI (if R x = 0 then 0 else C (R x)))) : wpX_labels post (c, kn, pc, 1, sc, a1, a2, a3, a4, rs_a C, a6, a7, rs_a R) (nI x) := by
  unfold wpX_labels
  dsimp only
  refine br_f (by decide) (rs_isRole hx (br_f (by decide) ⟨pk_in x 4 hx, ?_⟩))
  rw [rs_at R x rfl (by omega), rs_at C (R x) rfl (by omega)]
  refine pk_eq (R x) 0 (fun z => ?_) (fun z => ⟨pk_in x 4 hx, pk_in (R x) 48 hR, ?_⟩)
  · rw [if_pos z] at h
    exact h
  · rw [if_neg z] at h
    exact h
theorem rs_over11 {post : Int32 → Prop} {rn : Int32} {R : Nat → Nat} (hR : ∀ x, x < 4 → R x < 48) (H1 : (∀ x, x < 4 → R x = 0) → post 1) (H0 : ¬ (∀ x, x < 4 → R x = 0) → post 0) :
    ∀ fu x, x ≤ 4 → 4 - x < fu → (∀ y, y < x → R y = 0) → wX_over_11 post c kn pc rn sc a1 a2 a3 a4 a5 a6 a7 (rs_a R) fu (nI x) := by
  intro fu
  induction fu with
  | zero => intro x h1 h2; omega
  | succ fu ih =>
    intro x h1 h2 h3
    refine pk_le 4 x (fun z => H1 (fun y hy => h3 y (by omega))) (fun z => ⟨pk_in x 4 z, ?_⟩)
    rw [rs_at R x rfl (by omega)]
    have := hR x z
    exact pk_eq (R x) 0 (fun e => nm_r (nI_1 x) (ih (x + 1) (by omega) (by omega) (lt_s h3 e))) (fun e => H0 (fun t => e (t x z)))
theorem rs_over1 {post : Int32 → Prop} {R : Nat → Nat} (hR : ∀ x, x < 4 → R x < 48) (H1 : (∀ x, x < 4 → R x = 0) → post 1) (H0 : ¬ (∀ x, x < 4 → R x = 0) → post 0) :
    wpX_over post (c, kn, pc, 1, sc, a1, a2, a3, a4, a5, a6, a7, rs_a R) :=
  br_f (by decide) ⟨5, rs_over11 hR H1 H0 5 0 (by omega) (by omega) (fun y hy => absurd hy (by omega))⟩
end
theorem rs_I_B {n P : Nat} {T Q D C F Z R : Nat → Nat} (hK : rs_KI n P T Q D C F Z) (hR : ∀ x, x < 4 → R x < P) : rs_B D C R := fun x hx => by
  have h1 := hR x hx
  have h2 := hK.2.2.1
  refine ⟨by omega, fun z => ?_⟩
  obtain ⟨g1, g2, g3, g4, _⟩ := hK.2.1.2.2 (R x) (by omega) h1
  exact ⟨g1, g2, g4⟩
theorem rs_now {post : Int32 → Prop} {u : St1} (hV : rs_V u) (hp : post 1) : wpL_now post u := by
  obtain ⟨n, P, kn, rn, sc, T, S, Q, D, C, F, Z, R, rfl, hT, hz, hk⟩ := hV
  have hcase : rn = 0 ∨ (rn = 1 ∧ rs_KI n P T Q D C F Z ∧ (∀ x, x < 4 → R x < P) ∧ ∃ m, rs_G D C F m R) := by
    rcases hk with ⟨_, h⟩ | ⟨_, hK, h | ⟨h, hR, hG⟩⟩
    · exact Or.inl h
    · exact Or.inl h
    · exact Or.inr ⟨h, hK, hR, hG⟩
  rcases hcase with rfl | ⟨rfl, hK, hR, m, hG⟩
  · exact ⟨33, rs_now4 (pb := fun _ _ _ => false) (ov := 0) (du := fun _ => -1) (la := fun _ => -1)
      (fun r s l hr hs hl post _ h0 => br_t rfl (h0 rfl)) (fun post h => br_t rfl h) (fun x hx post h => br_t rfl h) (fun x hx post h => br_t rfl h)
      (fun r s l hr hs hl p => absurd p (by decide)) (Or.inl ⟨rfl, rfl⟩) hp 33 0 (by omega) (by omega)⟩
  · have hB := rs_I_B hK hR
    have hR48 : ∀ x, x < 4 → R x < 48 := fun x hx => (hB x hx).1
    have idle : (∀ x, x < 4 → R x = 0) ↔ (∀ x, x < 4 → nI (if R x = 0 then 0 else D (R x)) = 0) := by
      constructor
      · intro h x hx
        rw [if_pos (h x hx)]
        rfl
      · intro h x hx
        have t := h x hx
        by_cases e : R x = 0
        · exact e
        · rw [if_neg e] at t
          have b := (hB x hx).2 e
          exact absurd t (nI_ne0 (by omega) (by omega))
    have key : ∀ ov : Int32, rs_an ov (∀ x, x < 4 → R x = 0) → (∀ post : Int32 → Prop, post ov → wpX_over post (nI n, kn, nI P, 1, sc, rs_a T, rs_a S, rs_b Q, rs_a D, rs_a C, rs_a F, rs_a Z, rs_a R)) → wpL_now post (nI n, kn, nI P, 1, sc, rs_a T, rs_a S, rs_b Q, rs_a D, rs_a C, rs_a F, rs_a Z, rs_a R) := by
      intro ov ho hov
      refine ⟨33, rs_now4 (pb := fun r s l => @decide (rs_P D C R r s l) (Classical.propDecidable _)) (ov := ov) (du := fun x => nI (if R x = 0 then 0 else D (R x))) (la := fun x => nI (if R x = 0 then 0 else C (R x)))
        (fun r s l hr hs hl post h1 h0 => rs_poss hB hr hs hl (fun t => h1 (@decide_eq_true _ (Classical.propDecidable _) t)) (fun t => h0 (@decide_eq_false _ (Classical.propDecidable _) t))) hov (fun x hx post h => rs_duty1 hx (hR48 x hx) h) (fun x hx post h => rs_labels1 hx (hR48 x hx) h)
        (fun r s l hr hs hl p => ?_) (Or.inr ⟨rfl, ?_, fun h => ?_⟩) hp 33 0 (by omega) (by omega)⟩
      · have p' : rs_P D C R r s l := @of_decide_eq_true _ (Classical.propDecidable _) p
        have hl2 := rs_G_lab m hG hr hs p'
        obtain ⟨p1, p2, p3, p4, p5, p6⟩ := p'
        have b := ((hB r hr).2 p1).2.2
        rw [if_neg p1, if_neg p2, if_neg p1, if_neg p2, p3, p4, ← hl2]
        exact ⟨(nI_add 1 s).symm, (nI_add 5 r).symm, rfl, nI_lt p5 (by omega)⟩
      · rcases ho with ⟨e, g⟩ | ⟨e, g⟩
        · exact Or.inl ⟨e, idle.mp g⟩
        · exact Or.inr ⟨e, fun t => g (idle.mpr t)⟩
      · obtain ⟨r, s, hr, hs, pp⟩ := rs_G_prog hG (fun t => h (idle.mp t))
        exact rs_ct_pos hr hs (@decide_eq_true _ (Classical.propDecidable _) pp)
    by_cases hi : ∀ x, x < 4 → R x = 0
    · exact key 1 (Or.inl ⟨rfl, hi⟩) (fun post h => rs_over1 hR48 (fun _ => h) (fun t => absurd hi t))
    · exact key 0 (Or.inr ⟨rfl, hi⟩) (fun post h => rs_over1 hR48 (fun t => absurd t hi) (fun _ => h))
end
section
/-! sends; write, rub, token; complete and over of any object -/
section
variable {c kn pc rn sc : Int32} {a1 a2 a3 a4 a5 a6 a7 a8 : Nat → Int32}
theorem rs_se153 {post : Int32 → St1 → Prop} {J : Int32 → Int32 → Prop} {x1 x2 x4 x5 x6 x7 x8 x13 : Int32} {x : Nat} {re : Nat → Int32}
    (hre : ∀ x, x < 4 → ∀ post : Int32 → Prop, post (re x) → wpX_rest post (c, kn, pc, rn, sc, a1, a2, a3, a4, a5, a6, a7, a8) (nI x)) (hx : x < 4) (h : re x = x13) (hJ : J 1 (nI (x + 1))) :
    wL_sends_153 post J x1 x2 x4 x5 x6 x7 x8 1 (nI x) x13 c kn pc rn sc a1 a2 a3 a4 a5 a6 a7 a8 :=
  br_f (by decide) (br_t rfl (hre x hx _ (br_t h (nm_r (nI_1 x) hJ))))
theorem rs_se149 {post : Int32 → St1 → Prop} {J : Int32 → Int32 → Prop} {x1 x2 x4 x5 x6 x7 x8 x13 : Int32} {x : Nat} {re : Nat → Int32}
    (hre : ∀ x, x < 4 → ∀ post : Int32 → Prop, post (re x) → wpX_rest post (c, kn, pc, rn, sc, a1, a2, a3, a4, a5, a6, a7, a8) (nI x)) (hx : x < 4) (h : ¬ x13 ≤ re x) (hJ : J 1 (nI (x + 1))) :
    wL_sends_149 post J x1 x2 x4 x5 x6 x7 x8 1 (nI x) x13 c kn pc rn sc a1 a2 a3 a4 a5 a6 a7 a8 :=
  br_f (by decide) (br_f (by decide) (hre x hx _ (br_f h (nm_r (nI_1 x) hJ))))
theorem rs_se130 {post : Int32 → St1 → Prop} {J : Int32 → Int32 → Prop} {x4 x5 x6 x7 x8 x13 : Int32} {x r s : Nat} {re : Nat → Int32}
    (hre : ∀ x, x < 4 → ∀ post : Int32 → Prop, post (re x) → wpX_rest post (c, kn, pc, rn, sc, a1, a2, a3, a4, a5, a6, a7, a8) (nI x)) (hx : x < 4) (hr : r < 4) (hs : s < 4)
    (h0 : x4 = 0 → re x = x13) (h1 : ¬ x4 = 0 → x = r ∨ x = s → ¬ x13 ≤ re x) (h2 : ¬ x4 = 0 → x ≠ r → x ≠ s → re x = x13) (hJ : J 1 (nI (x + 1))) :
    wL_sends_130 post J (nI r) (nI s) x4 x5 x6 x7 x8 1 (nI x) x13 c kn pc rn sc a1 a2 a3 a4 a5 a6 a7 a8 :=
  br_c (fun z => rs_se153 hre hx (h0 z) hJ) (fun z => pk_eq x r (fun e => rs_se149 hre hx (h1 z (Or.inl e)) hJ) (fun e => pk_eq x s (fun e2 => rs_se149 hre hx (h1 z (Or.inr e2)) hJ) (fun e2 => rs_se153 hre hx (h2 z e e2) hJ)))
theorem rs_se90 {post : Int32 → St1 → Prop} {x4 : Int32} {r s : Nat} {re was : Nat → Int32}
    (hre : ∀ x, x < 4 → ∀ post : Int32 → Prop, post (re x) → wpX_rest post (c, kn, pc, rn, sc, a1, a2, a3, a4, a5, a6, a7, a8) (nI x)) (hr : r < 4) (hs : s < 4)
    (h0 : ∀ x, x < 4 → x4 = 0 → re x = was x) (h1 : ∀ x, x < 4 → ¬ x4 = 0 → x = r ∨ x = s → ¬ was x ≤ re x) (h2 : ∀ x, x < 4 → ¬ x4 = 0 → x ≠ r → x ≠ s → re x = was x)
    (hp : post 1 (c, kn, pc, rn, sc, a1, a2, a3, a4, a5, a6, a7, a8)) :
    ∀ fu x, x ≤ 4 → 4 - x < fu → wL_sends_90 post (nI r) (nI s) x4 (was 0) (was 1) (was 2) (was 3) c kn pc rn sc a1 a2 a3 a4 a5 a6 a7 a8 fu 1 (nI x) := by
  intro fu
  induction fu with
  | zero => intro x g1 g2; omega
  | succ fu ih =>
    intro x g1 g2
    refine pk_le 4 x (fun z => ⟨rfl, hp⟩) (fun z => ?_)
    have next := ih (x + 1) (by omega) (by omega)
    have body := fun (w : Int32) (e : was x = w) => rs_se130 (post := post) (x5 := was 0) (x6 := was 1) (x7 := was 2) (x8 := was 3) hre z hr hs (fun t => (h0 x z t).trans e) (fun t t2 => by rw [← e]; exact h1 x z t t2) (fun t t2 t3 => (h2 x z t t2 t3).trans e) next
    refine pk_eq x 0 (fun e => body _ (by rw [e])) (fun e0 => pk_eq x 1 (fun e => body _ (by rw [e])) (fun e1 => pk_eq x 2 (fun e => body _ (by rw [e])) (fun e2 => body _ (by rw [show x = 3 by omega]))))
end
section
variable {c kn pc sc : Int32} {a1 a2 a3 a7 : Nat → Int32}
theorem rs_send1 {post : Int32 → St1 → Prop} {r s l : Nat} {D C F R : Nat → Nat} (hB : rs_B D C R) (hF : ∀ x, x < 4 → R x ≠ 0 → F (2 * R x + l) < R x) (hr : r < 4) (hs : s < 4) (hl : l < 2)
    (H1 : rs_P D C R r s l → post 1 (c, kn, pc, 1, sc + 1, a1, a2, a3, rs_a D, rs_a C, rs_a F, a7, rs_a (rs_sp F R r s l))) (H0 : ¬ rs_P D C R r s l → post 0 (c, kn, pc, 1, sc, a1, a2, a3, rs_a D, rs_a C, rs_a F, a7, rs_a R)) :
    wpX_send post (c, kn, pc, 1, sc, a1, a2, a3, rs_a D, rs_a C, rs_a F, a7, rs_a R) (nI r) (nI s) (nI l) := by
  unfold wpX_send
  dsimp only
  refine rs_poss hB hr hs hl (fun p => br_f (by decide) ?_) (fun p => br_t rfl (H0 p))
  have hne : r ≠ s := rs_P_ne hs p
  have r1 := (hB r hr).1
  have s1 := (hB s hs).1
  have fr := hF r hr p.1
  have fs := hF s hs p.2.1
  have k : ∀ (A : Nat → Nat) (x v : Nat), x < 4 → A x = v → (2 : Int32) * rs_a A (nI x).toNatClampNeg + nI l = nI (2 * v + l) := fun A x v hx e => by
    rw [rs_at A x rfl (by omega), e, show (2 : Int32) = nI 2 from rfl, pk_mul, nI_add]
  have ks := k (rs_u R r (F (2 * R r + l))) s (R s) hs (rs_un (fun e => hne e.symm))
  have kr := k R r (R r) hr rfl
  refine ⟨pk_in r 4 hr, pk_in (2 * R r + l) 96 (by omega) kr, pk_in r 4 hr, nm_r (e' := rs_a (rs_u R r (F (2 * R r + l)))) ?_ ⟨pk_in s 4 hs, pk_in (2 * R s + l) 96 (by omega) ks, pk_in s 4 hs, nm_r (e' := rs_a (rs_sp F R r s l)) ?_ (nm_e (H1 p))⟩⟩
  · rw [rs_at F (2 * R r + l) kr (by omega), nI_clamp (by omega), vp_nar_byte, rs_byte _ (by omega), rs_au]
  · rw [rs_at F (2 * R s + l) ks (by omega), nI_clamp (by omega), vp_nar_byte, rs_byte _ (by omega), rs_au]
    rfl
end
theorem rs_sends {post : Int32 → St1 → Prop} {u : St1} {r s l : Nat} (hV : rs_V u) (hr : r < 4) (hs : s < 4) (hl : l < 2) (H : ∀ u', rs_V u' → post 1 u') : wpL_sends post u (nI r) (nI s) (nI l) := by
  have hV' := hV
  obtain ⟨n, P, kn, rn, sc, T, S, Q, D, C, F, Z, R, rfl, hT, hz, hk⟩ := hV
  have hcase : rn = 0 ∨ (rn = 1 ∧ kn = 1 ∧ rs_KI n P T Q D C F Z ∧ (∀ x, x < 4 → R x < P) ∧ ∃ m, rs_G D C F m R) := by
    rcases hk with ⟨_, h⟩ | ⟨g, hK, h | ⟨h, hR, hG⟩⟩
    · exact Or.inl h
    · exact Or.inl h
    · exact Or.inr ⟨h, g, hK, hR, hG⟩
  unfold wpL_sends
  dsimp only
  rcases hcase with rfl | ⟨rfl, rfl, hK, hR, m, hG⟩
  · refine br_t rfl (br_t rfl (br_t rfl (br_t rfl (br_t rfl (br_t rfl ?_)))))
    refine br_t (c := (0 : Int32) = 0) rfl (br_t rfl (br_t rfl (br_t rfl (br_t rfl (br_t rfl ⟨5, ?_⟩)))))
    exact rs_se90 (re := fun _ => -1) (was := fun _ => -1) (fun x hx post h => br_t rfl h) hr hs (fun _ _ _ => rfl) (fun _ _ h => absurd rfl h) (fun _ _ h => absurd rfl h) (H _ hV') 5 0 (by omega) (by omega)
  · have hB := rs_I_B hK hR
    have hR48 : ∀ x, x < 4 → R x < 48 := fun x hx => (hB x hx).1
    have hb := hK.2.1
    have hF : ∀ l, l < 2 → ∀ x, x < 4 → R x ≠ 0 → F (2 * R x + l) < R x := fun l hl x hx h0 => by
      obtain ⟨g1, g2, g3, g4, g5, g6, _⟩ := hb.2.2 (R x) (by omega) (hR x hx)
      rcases (show l = 0 ∨ l = 1 by omega) with e | e <;> subst e
      · exact g5
      · exact g6
    have hZ : ∀ x, x < 4 → Z (R x) ≤ 21 := fun x hx => rs_TB_Z hb (hR x hx)
    have r0 := fun (post : Int32 → Prop) (x : Nat) (hx : x < 4) (h : post (nI (Z (R x)))) => rs_rest1 (c := nI n) (kn := 1) (pc := nI P) (sc := sc) (a1 := rs_a T) (a2 := rs_a S) (a3 := rs_b Q) (a4 := rs_a D) (a5 := rs_a C) (a6 := rs_a F) hx (hR48 x hx) h
    refine rs_poss hB hr hs hl (fun p => ?_) (fun p => ?_)
    · refine r0 _ 0 (by omega) (r0 _ 1 (by omega) (r0 _ 2 (by omega) (r0 _ 3 (by omega) (br_f (by decide) ?_))))
      refine rs_send1 hB (hF l hl) hr hs hl (fun _ => ?_) (fun q => absurd p q)
      have hne : r ≠ s := rs_P_ne hs p
      have small : ∀ x, x < 4 → R x ≠ 0 → Z (F (2 * R x + l)) < Z (R x) := fun x hx h0 => by
        obtain ⟨g1, g2, g3, g4, g5, g6, g7, _⟩ := hb.2.2 (R x) (by omega) (hR x hx)
        rcases (show l = 0 ∨ l = 1 by omega) with e | e <;> subst e
        · show Z (F (2 * R x)) < _
          omega
        · omega
      have hR' : ∀ x, x < 4 → rs_sp F R r s l x < P := fun x hx => by
        by_cases a : x = s
        · rw [a, rs_sp_s]
          have := hF l hl s hs p.2.1
          have := hR s hs
          omega
        · by_cases b : x = r
          · rw [b, rs_sp_r hne]
            have := hF l hl r hr p.1
            have := hR r hr
            omega
          · rw [rs_sp_n b a]
            exact hR x hx
      have hB' := rs_I_B hK hR'
      refine br_t rfl (br_f (c := (1 : Int32) = 0) (by decide) (br_f (by decide) (br_t rfl ⟨5, ?_⟩)))
      refine rs_se90 (re := fun x => nI (Z (rs_sp F R r s l x))) (was := fun x => nI (Z (R x))) (fun x hx post h => rs_rest1 hx (hB' x hx).1 h) hr hs (fun _ _ h => absurd h (by decide)) (fun x hx _ he => ?_) (fun x hx _ h1 h2 => ?_) (H _ ⟨n, P, 1, 1, sc + 1, T, S, Q, D, C, F, Z, rs_sp F R r s l, rfl, hT, hz, Or.inr ⟨rfl, hK, Or.inr ⟨rfl, hR', m, rs_G_step m hG hr hs p⟩⟩⟩) 5 0 (by omega) (by omega)
      · have z21 := hZ x hx
        rcases he with e | e
        · subst e
          rw [rs_sp_r hne]
          exact nI_ge (small x hx p.1) (by omega)
        · subst e
          rw [rs_sp_s]
          exact nI_ge (small x hx p.2.1) (by omega)
      · show nI (Z (rs_sp F R r s l x)) = nI (Z (R x))
        rw [rs_sp_n h1 h2]
    · refine r0 _ 0 (by omega) (r0 _ 1 (by omega) (r0 _ 2 (by omega) (r0 _ 3 (by omega) (br_f (by decide) ?_))))
      refine rs_send1 hB (hF l hl) hr hs hl (fun q => absurd q p) (fun _ => ?_)
      refine br_t rfl (br_f (c := (1 : Int32) = 0) (by decide) (br_t rfl (br_t rfl ⟨5, ?_⟩)))
      exact rs_se90 (re := fun x => nI (Z (R x))) (was := fun x => nI (Z (R x))) (fun x hx post h => rs_rest1 hx (hR48 x hx) h) hr hs (fun _ _ _ => rfl) (fun _ _ h => absurd rfl h) (fun _ _ h => absurd rfl h) (H _ hV') 5 0 (by omega) (by omega)
theorem rs_isToken {post : Int32 → Prop} {t : Nat} (ht : t ≤ 32) (h1 : rs_tk t → post 1) (h0 : post 0) : wpX_isToken post () (nI t) := by
  have hsd := rs_sd_lt t
  have hrc := rs_rc_lt t
  have key : ∀ z0 : Int32, (1 ≤ t → z0 &&& 3 = nI (rs_sd t) ∧ z0 >>> ((2 : Int32) &&& 31) = nI (rs_rc t)) → wX_isToken_16 post (nI t) z0 := fun z0 h =>
    pk_eq t 0 (fun z => h1 ⟨ht, fun w => absurd z w⟩) (fun z => pk_lt t 1 (fun _ => h0) (fun g => pk_lt 32 t (fun _ => h0) (fun _ => by
      obtain ⟨e1, e2⟩ := h g
      rw [e1, e2]
      exact pk_eq (rs_sd t) (rs_rc t) (fun _ => h0) (fun w => h1 ⟨ht, fun _ => w⟩))))
  exact br_c (fun z => key _ (fun g => ⟨(rs_sdT t (by omega) g).1 z, (rs_rcT t (by omega) g).1 z⟩)) (fun z => key _ (fun g => ⟨(rs_sdT t (by omega) g).2 z, (rs_rcT t (by omega) g).2 z⟩))
theorem rs_write {post : Int32 → St1 → Prop} {u : St1} {t : Nat} (hV : rs_V u) (ht : t ≤ 32) (H : ∀ u' r, rs_V u' → post r u') : wpX_write post u (nI t) := by
  have hV' := hV
  obtain ⟨n, P, kn, rn, sc, T, S, Q, D, C, F, Z, R, rfl, hT, hz, hk⟩ := hV
  unfold wpX_write
  dsimp only
  refine rs_isToken ht (fun htk => br_f (by decide) (rs_complete hT (fun hc => br_f (by decide) (H _ _ hV')) (fun hc => br_t rfl ?_))) (br_t rfl (H _ _ hV'))
  have hn := hT.1
  refine pk_lt n 21 (fun z => ⟨pk_in n 21 z, nm_r (e' := rs_a (rs_u T n t)) ?_ (nm_r (nI_1 n) ?_)⟩) (fun z => H _ _ hV')
  · rw [nI_clamp (by omega), rs_byte t (by omega), rs_au]
  · refine H (nI (n + 1), 0, nI P, 0, sc, rs_a (rs_u T n t), rs_a S, rs_b Q, rs_a D, rs_a C, rs_a F, rs_a Z, rs_a R) (nI (n + 1)) ⟨n + 1, P, 0, 0, sc, rs_u T n t, S, Q, D, C, F, Z, R, rfl, ⟨by omega, fun j hj => ?_⟩, hz, Or.inl ⟨rfl, rfl⟩⟩
    rw [rs_nd_cong j (fun i hi => rs_un (show i ≠ n by omega))]
    by_cases e : j = n
    · subst e
      rw [rs_us]
      exact ⟨htk, Nat.pos_of_ne_zero hc⟩
    · rw [rs_un e]
      exact hT.2 j (by omega)
theorem rs_rub {post : Int32 → St1 → Prop} {u : St1} (hV : rs_V u) (H : ∀ u' r, rs_V u' → post r u') : wpX_rub post u := by
  have hV' := hV
  obtain ⟨n, P, kn, rn, sc, T, S, Q, D, C, F, Z, R, rfl, hT, hz, hk⟩ := hV
  unfold wpX_rub
  dsimp only
  have hn := hT.1
  refine pk_eq n 0 (fun z => H _ _ hV') (fun z => ?_)
  obtain ⟨m, rfl⟩ : ∃ m, n = m + 1 := ⟨n - 1, by omega⟩
  refine nm_r (nI_pred m) ⟨pk_in m 21 (by omega), ?_⟩
  exact H (nI m, 0, nI P, 0, sc, rs_a T, rs_a S, rs_b Q, rs_a D, rs_a C, rs_a F, rs_a Z, rs_a R) _ ⟨m, P, 0, 0, sc, T, S, Q, D, C, F, Z, R, rfl, ⟨by omega, fun j hj => hT.2 j (by omega)⟩, hz, Or.inl ⟨rfl, rfl⟩⟩
theorem rs_token {post : Int32 → Prop} {x : Int32} (H : ∀ t, t ≤ 32 → post (nI t)) : wpL_token post () x := by
  obtain ⟨r, hr, er⟩ := pk_andE x (m := 3) 2 (by decide)
  refine nm_r er ⟨by decide, fun y ey => ?_⟩
  obtain ⟨s, hs, es⟩ := pk_andE ((nI r + 1) + (((x >>> ((2 : Int32) &&& 31)) &&& 255) - ((x >>> ((2 : Int32) &&& 31)) &&& 255) / 3 * 3)) (m := 3) 2 (by decide)
  rw [es] at ey
  subst ey
  have e1 : ((17 : Int32) + nI r) + (4 * nI s) = nI (17 + r + 4 * s) := by
    rw [show (17 : Int32) = nI 17 from rfl, show (4 : Int32) = nI 4 from rfl, nI_add, pk_mul, nI_add]
  have e2 : ((1 : Int32) + nI r) + (4 * nI s) = nI (1 + r + 4 * s) := by
    rw [show (1 : Int32) = nI 1 from rfl, show (4 : Int32) = nI 4 from rfl, nI_add, pk_mul, nI_add]
  rw [e1, e2]
  exact br_c (fun _ => H _ (by omega)) (fun _ => H _ (by omega))
theorem rs_completeV {post : Int32 → Prop} {u : St1} (hV : rs_V u) (h1 : post 1) (h0 : post 0) : wpX_complete post u := by
  obtain ⟨n, P, kn, rn, sc, T, S, Q, D, C, F, Z, R, rfl, hT, hz, hk⟩ := hV
  exact rs_complete hT (fun _ => h1) (fun _ => h0)
theorem rs_overV {post : Int32 → Prop} {u : St1} (hV : rs_V u) (h1 : post 1) (h0 : post 0) : wpX_over post u := by
  obtain ⟨n, P, kn, rn, sc, T, S, Q, D, C, F, Z, R, rfl, hT, hz, hk⟩ := hV
  rcases hk with ⟨_, rfl⟩ | ⟨g, hK, rfl | ⟨rfl, hR, hG⟩⟩
  · exact br_t rfl h0
  · exact br_t rfl h0
  · exact rs_over1 (fun x hx => (rs_I_B hK hR x hx).1) (fun _ => h1) (fun _ => h0)
end
section
/-! the law's loops -/
section
variable {post : Int32 → Prop} {L : Nat} {xs : Nat → Int32} {kc ks : Nat}
theorem rs_law333 {c kn pc rn sc : Int32} {a1 a2 a3 a4 a5 a6 a7 a8 : Nat → Int32} {x : Int32} (hp : post 1) (hV : rs_V (c, kn, pc, rn, sc, a1, a2, a3, a4, a5, a6, a7, a8)) :
    wL_law_333 post L xs x x kc ks c kn pc rn sc a1 a2 a3 a4 a5 a6 a7 a8 := by
  refine br_t rfl (rs_roles hV (fun u' hW => ?_))
  obtain ⟨c', kn', pc', rn', sc', b1, b2, b3, b4, b5, b6, b7, b8⟩ := u'
  exact br_f (by decide) hp
theorem rs_law269 (hp : post 1) {x : Int32} : ∀ (fu k : Nat) (c kn pc rn sc : Int32) (a1 a2 a3 a4 a5 a6 a7 a8 : Nat → Int32), rs_V (c, kn, pc, rn, sc, a1, a2, a3, a4, a5, a6, a7, a8) → k ≤ 40 → 40 - k < fu →
    wL_law_269 post L xs x x kc ks fu (nI k) c kn pc rn sc a1 a2 a3 a4 a5 a6 a7 a8 := by
  intro fu
  induction fu with
  | zero => intro k c kn pc rn sc a1 a2 a3 a4 a5 a6 a7 a8 hV h1 h2; omega
  | succ fu ih =>
    intro k c kn pc rn sc a1 a2 a3 a4 a5 a6 a7 a8 hV h1 h2
    refine pk_le 40 k (fun z => rs_law333 hp hV) (fun z => br_c (fun _ => rs_law333 hp hV) (fun _ => rs_overV hV ?_ ?_))
    · exact br_f (by decide) (rs_law333 hp hV)
    · refine br_t rfl (fun x5 e5 => ?_)
      obtain ⟨m, hm, em⟩ := pk_andE (nI k * 7) (m := 31) 5 (by decide)
      rw [em] at e5
      subst e5
      obtain ⟨e1, e2, e3⟩ := rs_cN m hm
      rw [e1, e2, e3]
      refine rs_sends hV (by omega) (by omega) (by omega) (fun u' hV' => ?_)
      obtain ⟨c', kn', pc', rn', sc', b1, b2, b3, b4, b5, b6, b7, b8⟩ := u'
      exact br_f (by decide) (rs_now hV' (br_f (by decide) (nm_r (nI_1 k) (ih (k + 1) _ _ _ _ _ _ _ _ _ _ _ _ _ hV' (by omega) (by omega)))))
theorem rs_law256 {c kn pc rn sc : Int32} {a1 a2 a3 a4 a5 a6 a7 a8 : Nat → Int32} (hp : post 1) (hV : rs_V (c, kn, pc, rn, sc, a1, a2, a3, a4, a5, a6, a7, a8)) :
    wL_law_256 post L xs kc ks c kn pc rn sc a1 a2 a3 a4 a5 a6 a7 a8 := by
  unfold wL_law_256
  refine rs_fitA hV (fun u' r hW ha => ?_)
  obtain ⟨c', kn', pc', rn', sc', b1, b2, b3, b4, b5, b6, b7, b8⟩ := u'
  refine rs_startB hW (fun hn => ⟨41, ?_⟩) (fun hy c pc a1 a2 a3 a4 a5 a6 a7 a8 hW2 hf he => ⟨41, ?_⟩)
  · rcases ha with ⟨rfl, f⟩ | ⟨rfl, f⟩
    · exact absurd f hn
    · exact rs_law269 hp 41 0 _ _ _ _ _ _ _ _ _ _ _ _ _ hW.1 (by omega) (by omega)
  · rcases ha with ⟨rfl, f⟩ | ⟨rfl, f⟩
    · exact rs_law269 hp 41 0 _ _ _ _ _ _ _ _ _ _ _ _ _ hW2.1 (by omega) (by omega)
    · exact absurd hy f
theorem rs_law231 (hp : post 1) : ∀ (fu k : Nat) (c kn pc rn sc : Int32) (a1 a2 a3 a4 a5 a6 a7 a8 : Nat → Int32), rs_V (c, kn, pc, rn, sc, a1, a2, a3, a4, a5, a6, a7, a8) → k ≤ 30 → 30 - k < fu →
    wL_law_231 post L xs kc ks fu (nI k) c kn pc rn sc a1 a2 a3 a4 a5 a6 a7 a8 := by
  intro fu
  induction fu with
  | zero => intro k c kn pc rn sc a1 a2 a3 a4 a5 a6 a7 a8 hV h1 h2; omega
  | succ fu ih =>
    intro k c kn pc rn sc a1 a2 a3 a4 a5 a6 a7 a8 hV h1 h2
    refine pk_le 30 k (fun z => rs_law256 hp hV) (fun z => rs_completeV hV (br_f (by decide) (rs_law256 hp hV)) (br_t rfl ?_))
    refine rs_write (t := 0) hV (by omega) (fun u' r hV' => ?_)
    obtain ⟨c', kn', pc', rn', sc', b1, b2, b3, b4, b5, b6, b7, b8⟩ := u'
    exact nm_r (nI_1 k) (ih (k + 1) _ _ _ _ _ _ _ _ _ _ _ _ _ hV' (by omega) (by omega))
theorem rs_restE {c kn pc sc : Int32} {a1 a2 a3 a4 a5 a6 a7 a8 : Nat → Int32} {x : Nat} (hx : x < 4) (hv : vp_in (a8 x) 48) (h : post (a7 (a8 x).toNatClampNeg)) : wpX_rest post (c, kn, pc, 1, sc, a1, a2, a3, a4, a5, a6, a7, a8) (nI x) := by
  unfold wpX_rest
  dsimp only
  refine br_f (by decide) (rs_isRole hx (br_f (by decide) ⟨pk_in x 4 hx, ?_⟩))
  rw [nI_clamp (show x < 2 ^ 31 by omega)]
  exact ⟨hv, h⟩
/-- rest(x) and size(x) behind start -/
theorem rs_rs {c pc : Int32} {a1 a2 a3 a4 a5 a6 a7 a8 : Nat → Int32} {g : Int32 → Int32 → St1 → Prop} {x : Nat} (hx : x < 4) (hW : rs_W (c, 1, pc, 1, 0, a1, a2, a3, a4, a5, a6, a7, a8))
    (hf : ∀ x, x < 4 → rs_fx (c, 1, pc, 1, 0, a1, a2, a3, a4, a5, a6, a7, a8) x) (he : ∀ x, x < 4 → a8 x = a3 x) (h : ∀ r, g r r (c, 1, pc, 1, 0, a1, a2, a3, a4, a5, a6, a7, a8)) :
    wpX_rest (fun r => wpX_size (g r) (c, 1, pc, 1, 0, a1, a2, a3, a4, a5, a6, a7, a8) (nI x)) (c, 1, pc, 1, 0, a1, a2, a3, a4, a5, a6, a7, a8) (nI x) := by
  have t := rs_V_sz hW.1 hx (hf x hx)
  refine rs_restE hx (by rw [he x hx]; exact t.1) (rs_sizeB hW hx (fun _ _ => ?_) (fun n => absurd (hf x hx) n))
  rw [he x hx]
  exact h _
theorem rs_law10 (hp : post 1) (hL : L ≤ 260) : ∀ (fu k : Nat) (c kn pc rn sc : Int32) (a1 a2 a3 a4 a5 a6 a7 a8 : Nat → Int32), rs_V (c, kn, pc, rn, sc, a1, a2, a3, a4, a5, a6, a7, a8) → k ≤ L → L - k < fu →
    wL_law_10 post L xs kc ks fu (nI k) c kn pc rn sc a1 a2 a3 a4 a5 a6 a7 a8 := by
  intro fu
  induction fu with
  | zero => intro k c kn pc rn sc a1 a2 a3 a4 a5 a6 a7 a8 hV h1 h2; omega
  | succ fu ih =>
    intro k c kn pc rn sc a1 a2 a3 a4 a5 a6 a7 a8 hV h1 h2
    refine pk_le L k (fun z => ⟨31, rs_law231 hp 31 0 _ _ _ _ _ _ _ _ _ _ _ _ _ hV (by omega) (by omega)⟩) (fun z => ⟨pk_in k L z, fun x3 _ => ⟨pk_in k L z, fun x4 _ => ?_⟩⟩)
    have h207 : ∀ u : St1, rs_V u → wL_law_207 post L xs (wL_law_10 post L xs kc ks fu) (nI k) kc ks u.1 u.2.1 u.2.2.1 u.2.2.2.1 u.2.2.2.2.1 u.2.2.2.2.2.1 u.2.2.2.2.2.2.1 u.2.2.2.2.2.2.2.1 u.2.2.2.2.2.2.2.2.1 u.2.2.2.2.2.2.2.2.2.1 u.2.2.2.2.2.2.2.2.2.2.1 u.2.2.2.2.2.2.2.2.2.2.2.1 u.2.2.2.2.2.2.2.2.2.2.2.2 := by
      intro u hu
      obtain ⟨c, kn, pc, rn, sc, a1, a2, a3, a4, a5, a6, a7, a8⟩ := u
      unfold wL_law_207
      refine rs_roles hu (fun u' hW => ?_)
      obtain ⟨c', kn', pc', rn', sc', b1, b2, b3, b4, b5, b6, b7, b8⟩ := u'
      exact br_f (by decide) (rs_now hW.1 (br_f (by decide) (nm_r (nI_1 k) (ih (k + 1) _ _ _ _ _ _ _ _ _ _ _ _ _ hW.1 (by omega) (by omega)))))
    have h50 : ∀ t, t ≤ 32 → wL_law_50 post L xs (wL_law_10 post L xs kc ks fu) (nI k) (nI t) kc ks c kn pc rn sc a1 a2 a3 a4 a5 a6 a7 a8 := by
      intro t ht
      unfold wL_law_50
      refine rs_write hV ht (fun u' r hV' => ?_)
      obtain ⟨c', kn', pc', rn', sc', b1, b2, b3, b4, b5, b6, b7, b8⟩ := u'
      exact h207 _ hV'
    refine br_c (fun _ => br_c (fun _ => br_c (fun _ => ?_) (fun _ => ?_)) (fun _ => ?_)) (fun _ => br_c (fun _ => rs_token h50) (fun _ => h50 0 (by omega)))
    · obtain ⟨r, hr, er⟩ := pk_andE x4 (m := 3) 2 (by decide)
      obtain ⟨s, hs, es⟩ := pk_andE (x4 >>> ((2 : Int32) &&& 31)) (m := 3) 2 (by decide)
      obtain ⟨l, hl, el⟩ := pk_andE (x4 >>> ((4 : Int32) &&& 31)) (m := 1) 1 (by decide)
      rw [er, es, el]
      refine rs_sends hV hr hs hl (fun u' hV' => ?_)
      obtain ⟨c', kn', pc', rn', sc', b1, b2, b3, b4, b5, b6, b7, b8⟩ := u'
      exact br_f (by decide) (h207 _ hV')
    · refine rs_fitA hV (fun u' r hW ha => ?_)
      obtain ⟨c', kn', pc', rn', sc', b1, b2, b3, b4, b5, b6, b7, b8⟩ := u'
      refine rs_startB hW (fun hn => ?_) (fun hy c pc a1 a2 a3 a4 a5 a6 a7 a8 hW2 hf he => ?_)
      · rcases ha with ⟨rfl, f⟩ | ⟨rfl, f⟩
        · exact absurd f hn
        · exact br_t rfl (br_t rfl (br_f (by decide) (h207 _ hW.1)))
      · rcases ha with ⟨rfl, f⟩ | ⟨rfl, f⟩
        · refine br_t rfl (br_f (by decide) (br_f (by decide) (br_t rfl ?_)))
          refine rs_rs (x := 0) (by omega) hW2 hf he (fun r0 => br_t rfl ?_)
          refine rs_rs (x := 1) (by omega) hW2 hf he (fun r1 => br_t rfl ?_)
          refine rs_rs (x := 2) (by omega) hW2 hf he (fun r2 => br_t rfl ?_)
          refine rs_rs (x := 3) (by omega) hW2 hf he (fun r3 => br_t rfl ?_)
          exact br_f (by decide) (h207 _ hW2.1)
        · exact absurd hy f
    · refine rs_rub hV (fun u' r hV' => ?_)
      obtain ⟨c', kn', pc', rn', sc', b1, b2, b3, b4, b5, b6, b7, b8⟩ := u'
      exact h207 _ hV'
end
theorem rs_V0 : rs_V (0, 0, 0, 0, 0, (fun _ => 0), (fun _ => 0), (fun _ => 0), (fun _ => 0), (fun _ => 0), (fun _ => 0), (fun _ => 0), (fun _ => 0)) :=
  ⟨0, 0, 0, 0, 0, fun _ => 0, fun _ => 0, fun _ => 1, fun _ => 0, fun _ => 0, fun _ => 0, fun _ => 0, fun _ => 0, rfl, ⟨by omega, fun j hj => absurd hj (by omega)⟩, rfl, Or.inl ⟨rfl, rfl⟩⟩
theorem i_vc (xs : Nat → Int32) (L : Nat) (hL : L ≤ 260) : wpL_law (fun r => r = 1) L xs := by
  refine ⟨8, 370, by omega, by omega, by omega, by omega, by omega, by omega, by omega, by omega, by omega, by omega, by omega, by omega, by omega, by omega, by omega, by omega, by omega, by omega, L + 1, ?_⟩
  exact rs_law10 (post := fun r => r = 1) rfl hL (L + 1) 0 _ _ _ _ _ _ _ _ _ _ _ _ _ rs_V0 (by omega) (by omega)
end

section
/-! numbers -/
theorem jt_s16 : ∀ n, n < 256 → (nI n).toInt16.toInt32 = nI n := by decide +kernel
theorem jt_s8 : ∀ n, n < 128 → (nI n).toInt8.toInt32 = nI n := by decide +kernel
theorem jt_ns {n : Nat} (h : n < 256) : vp_nar .short (nI n) = nI n := by rw [vp_nar_short, jt_s16 n h]
theorem jt_nb {n : Nat} (h : n < 128) : vp_nar .byte (nI n) = nI n := by rw [vp_nar_byte, jt_s8 n h]
theorem jt_nz0 : vp_nar .boolean 0 = 0 := by decide
theorem jt_nz1 : vp_nar .boolean 1 = 1 := by decide
theorem jt_w3 : ∀ a, a < 3 → ∀ b, b < 3 → nI a + 1 ≤ 3 * (nI b + 1) := by decide +kernel
theorem jt_cl {n : Nat} (h : n < 256) : (nI n).toNatClampNeg = n := nI_clamp (by omega)
theorem jt_in {n : Nat} (h : n < 256) : vp_in (nI n) 256 := vp_in_nI h (by omega)
theorem jt_nz {n : Nat} (h0 : 0 < n) (h : n < 256) : ¬ nI n = 0 := nI_ne0 h0 (by omega)
theorem jt_inj {a b : Nat} (ha : a < 256) (hb : b < 256) (h : nI a = nI b) : a = b := (nI_eq (by omega) (by omega)).mp h
/-! trees: root r, the nodes in order l -/
def jt_T (a1 a2 a4 : Nat → Int32) : Nat → Nat → List Nat → Prop
  | 0 => fun r l => r = 0 ∧ l = []
  | d + 1 => fun r l => (r = 0 ∧ l = []) ∨ (0 < r ∧ r < 256 ∧ ∃ lc rc ll rl, a1 r = nI lc ∧ a2 r = nI rc ∧ jt_T a1 a2 a4 d lc ll ∧ jt_T a1 a2 a4 d rc rl ∧ l = ll ++ r :: rl ∧ a4 r = nI l.length)
def jt_R (a1 a2 a4 : Nat → Int32) (r : Nat) (l : List Nat) : Prop := jt_T a1 a2 a4 l.length r l
section
variable {a1 a2 a3 a4 a6 b1 b2 b4 : Nat → Int32}
theorem jt_T_up {d : Nat} : ∀ {r : Nat} {l : List Nat}, jt_T a1 a2 a4 d r l → jt_T a1 a2 a4 (d + 1) r l := by
  induction d with
  | zero => intro r l h; exact Or.inl h
  | succ d ih =>
    intro r l h
    rcases h with h | ⟨h0, h1, lc, rc, ll, rl, e1, e2, t1, t2, e, c⟩
    · exact Or.inl h
    · exact Or.inr ⟨h0, h1, lc, rc, ll, rl, e1, e2, ih t1, ih t2, e, c⟩
theorem jt_T_le {d e r : Nat} {l : List Nat} (h : d ≤ e) (t : jt_T a1 a2 a4 d r l) : jt_T a1 a2 a4 e r l := by
  induction h with
  | refl => exact t
  | step _ ih => exact jt_T_up ih
theorem jt_T_R {d : Nat} : ∀ {r : Nat} {l : List Nat}, jt_T a1 a2 a4 d r l → jt_R a1 a2 a4 r l := by
  induction d with
  | zero =>
    intro r l h
    obtain ⟨rfl, rfl⟩ := h
    exact ⟨rfl, rfl⟩
  | succ d ih =>
    intro r l h
    rcases h with ⟨rfl, rfl⟩ | ⟨h0, h1, lc, rc, ll, rl, e1, e2, t1, t2, e, c⟩
    · exact ⟨rfl, rfl⟩
    · have hl : l.length = (ll.length + rl.length) + 1 := by rw [e, List.length_append, List.length_cons]; omega
      unfold jt_R
      rw [hl]
      exact Or.inr ⟨h0, h1, lc, rc, ll, rl, e1, e2, jt_T_le (d := ll.length) (by omega) (ih t1), jt_T_le (d := rl.length) (by omega) (ih t2), e, c⟩
theorem jt_R_cases {r : Nat} {l : List Nat} (h : jt_R a1 a2 a4 r l) : (r = 0 ∧ l = []) ∨ (0 < r ∧ r < 256 ∧ ∃ lc rc ll rl, a1 r = nI lc ∧ a2 r = nI rc ∧ jt_R a1 a2 a4 lc ll ∧ jt_R a1 a2 a4 rc rl ∧ l = ll ++ r :: rl ∧ a4 r = nI l.length) := by
  obtain ⟨d, h⟩ : ∃ d, jt_T a1 a2 a4 d r l := ⟨_, h⟩
  cases d with
  | zero => exact Or.inl h
  | succ d =>
    rcases h with h | ⟨h0, h1, lc, rc, ll, rl, e1, e2, t1, t2, e, c⟩
    · exact Or.inl h
    · exact Or.inr ⟨h0, h1, lc, rc, ll, rl, e1, e2, jt_T_R t1, jt_T_R t2, e, c⟩
theorem jt_R_nil : jt_R a1 a2 a4 0 [] := ⟨rfl, rfl⟩
theorem jt_R_node {r lc rc : Nat} {ll rl : List Nat} (h0 : 0 < r) (h1 : r < 256) (e1 : a1 r = nI lc) (e2 : a2 r = nI rc) (t1 : jt_R a1 a2 a4 lc ll) (t2 : jt_R a1 a2 a4 rc rl) (c : a4 r = nI (ll.length + rl.length + 1)) : jt_R a1 a2 a4 r (ll ++ r :: rl) := by
  have hl : (ll ++ r :: rl).length = (ll.length + rl.length) + 1 := by rw [List.length_append, List.length_cons]; omega
  refine jt_T_R (d := (ll.length + rl.length) + 1) (Or.inr ⟨h0, h1, lc, rc, ll, rl, e1, e2, jt_T_le (d := ll.length) (by omega) t1, jt_T_le (d := rl.length) (by omega) t2, rfl, ?_⟩)
  rw [hl]
  exact c
theorem jt_T_ext {d : Nat} : ∀ {r : Nat} {l : List Nat}, jt_T a1 a2 a4 d r l → (∀ n, n ∈ l → b1 n = a1 n ∧ b2 n = a2 n ∧ b4 n = a4 n) → jt_T b1 b2 b4 d r l := by
  induction d with
  | zero => intro r l h _; exact h
  | succ d ih =>
    intro r l h k
    rcases h with h | ⟨h0, h1, lc, rc, ll, rl, e1, e2, t1, t2, e, c⟩
    · exact Or.inl h
    · subst e
      obtain ⟨k1, k2, k4⟩ := k r (by simp)
      exact Or.inr ⟨h0, h1, lc, rc, ll, rl, k1.trans e1, k2.trans e2, ih t1 (fun n hn => k n (by simp [hn])), ih t2 (fun n hn => k n (by simp [hn])), rfl, k4.trans c⟩
theorem jt_R_ext {r : Nat} {l : List Nat} (h : jt_R a1 a2 a4 r l) (k : ∀ n, n ∈ l → b1 n = a1 n ∧ b2 n = a2 n ∧ b4 n = a4 n) : jt_R b1 b2 b4 r l := jt_T_ext h k
theorem jt_R_lt {r : Nat} {l : List Nat} (h : jt_R a1 a2 a4 r l) : r < 256 := by
  rcases jt_R_cases h with ⟨rfl, _⟩ | ⟨_, h1, _⟩
  · omega
  · exact h1
theorem jt_R_cnt {r : Nat} {l : List Nat} (z : a4 0 = nI 0) (h : jt_R a1 a2 a4 r l) : a4 r = nI l.length := by
  rcases jt_R_cases h with ⟨rfl, rfl⟩ | ⟨_, _, _, _, _, _, _, _, _, _, _, c⟩
  · exact z
  · exact c
theorem jt_T_pos {d : Nat} : ∀ {r : Nat} {l : List Nat}, jt_T a1 a2 a4 d r l → ∀ n, n ∈ l → 0 < n ∧ n < 256 := by
  induction d with
  | zero =>
    intro r l h n hn
    rw [h.2] at hn
    cases hn
  | succ d ih =>
    intro r l h n hn
    rcases h with h | ⟨h0, h1, lc, rc, ll, rl, e1, e2, t1, t2, e, c⟩
    · rw [h.2] at hn
      cases hn
    · rw [e] at hn
      rcases List.mem_append.mp hn with g | g
      · exact ih t1 n g
      · rcases List.mem_cons.mp g with g | g
        · rw [g]; exact ⟨h0, h1⟩
        · exact ih t2 n g
theorem jt_R_pos {r : Nat} {l : List Nat} (h : jt_R a1 a2 a4 r l) : ∀ n, n ∈ l → 0 < n ∧ n < 256 := jt_T_pos h
theorem jt_R_n0 {r : Nat} {l : List Nat} (h : jt_R a1 a2 a4 r l) : 0 ∉ l := fun g => absurd (jt_R_pos h 0 g).1 (by omega)
theorem jt_R_0 {l : List Nat} (h : jt_R a1 a2 a4 0 l) : l = [] := by
  rcases jt_R_cases h with ⟨_, e⟩ | ⟨h0, _⟩
  · exact e
  · exact absurd h0 (by omega)
theorem jt_R_e {r : Nat} (h : jt_R a1 a2 a4 r []) : r = 0 := h.1
theorem jt_R_mem {r : Nat} {l : List Nat} (h : jt_R a1 a2 a4 r l) (h0 : 0 < r) : r ∈ l := by
  rcases jt_R_cases h with ⟨e, _⟩ | ⟨_, _, _, _, ll, rl, _, _, _, _, e, _⟩
  · omega
  · rw [e]; simp
theorem jt_R_one {e : Nat} (h0 : 0 < e) (h1 : e < 256) (e1 : a1 e = nI 0) (e2 : a2 e = nI 0) (e4 : a4 e = nI 1) : jt_R a1 a2 a4 e [e] :=
  jt_R_node (lc := 0) (rc := 0) (ll := []) (rl := []) h0 h1 e1 e2 jt_R_nil jt_R_nil e4
end
/-! the free stack, the pool -/
def jt_FS (a6 : Nat → Int32) : List Nat → Prop
  | [] => True
  | n :: F => a6 F.length = nI n ∧ jt_FS a6 F
theorem jt_FS_upd {a6 : Nat → Int32} {k : Nat} {v : Int32} : ∀ {F : List Nat}, F.length ≤ k → jt_FS a6 F → jt_FS (upd a6 k v) F
  | [], _, _ => trivial
  | n :: F, hk, h => by
    have hk' : F.length + 1 ≤ k := hk
    exact ⟨(pk_un (show F.length ≠ k by omega)).trans h.1, jt_FS_upd (by omega) h.2⟩
theorem jt_FS_push {a6 : Nat → Int32} {n : Nat} {F : List Nat} (h : jt_FS a6 F) : jt_FS (upd a6 F.length (nI n)) (n :: F) := ⟨pk_us, jt_FS_upd (Nat.le_refl _) h⟩
def jt_P (F V : List Nat) : Prop := (F ++ V).Nodup ∧ (∀ n, n ∈ F ++ V → 0 < n ∧ n < 256) ∧ F.length + V.length = 255
theorem jt_pm {l m : List Nat} (h : ∀ a, l.count a = m.count a) : l.Perm m := List.perm_iff_count.mpr h
theorem jt_P_perm {F V F' V' : List Nat} (h : jt_P F V) (p : (F ++ V).Perm (F' ++ V')) : jt_P F' V' := by
  obtain ⟨h1, h2, h3⟩ := h
  refine ⟨p.nodup h1, fun n hn => h2 n (p.mem_iff.mpr hn), ?_⟩
  have := p.length_eq
  rw [List.length_append, List.length_append] at this
  omega
theorem jt_P_nd {F V : List Nat} (h : jt_P F V) : V.Nodup := (List.nodup_append.mp h.1).2.1
theorem jt_P_new {n : Nat} {F V : List Nat} (h : jt_P (n :: F) V) : jt_P F (n :: V) := jt_P_perm h (jt_pm fun a => by simp only [List.count_append, List.count_cons]; omega)
theorem jt_P_old {n : Nat} {F V : List Nat} (h : jt_P F (n :: V)) : jt_P (n :: F) V := jt_P_perm h (jt_pm fun a => by simp only [List.count_append, List.count_cons]; omega)
theorem jt_P_more {F V : List Nat} (h : jt_P F V) (hv : V.length < 255) : ∃ n F', F = n :: F' ∧ 0 < n ∧ n < 256 ∧ n ∉ F' ∧ n ∉ V := by
  obtain ⟨h1, h2, h3⟩ := h
  cases F with
  | nil => simp at h3; omega
  | cons n F' =>
    have hb := h2 n (by simp)
    have hn : n ∉ F' ++ V := by
      have := List.nodup_cons.mp h1
      exact this.1
    exact ⟨n, F', rfl, hb.1, hb.2, fun g => hn (List.mem_append_left _ g), fun g => hn (List.mem_append_right _ g)⟩
/-! order -/
def jt_So (a3 : Nat → Int32) (l : List Nat) : Prop := l.Pairwise (fun p q => a3 p < a3 q)
theorem jt_So_app {a3 : Nat → Int32} {l m : List Nat} : jt_So a3 (l ++ m) ↔ jt_So a3 l ∧ jt_So a3 m ∧ ∀ p, p ∈ l → ∀ q, q ∈ m → a3 p < a3 q := List.pairwise_append
theorem jt_So_cons {a3 : Nat → Int32} {p : Nat} {m : List Nat} : jt_So a3 (p :: m) ↔ (∀ q, q ∈ m → a3 p < a3 q) ∧ jt_So a3 m := List.pairwise_cons
theorem jt_So_nil {a3 : Nat → Int32} : jt_So a3 [] := List.Pairwise.nil
theorem jt_So_nd {a3 : Nat → Int32} {l : List Nat} (h : jt_So a3 l) : l.Nodup := List.Pairwise.imp (fun {p q} (g : a3 p < a3 q) (e : p = q) => by rw [e] at g; exact Int32.lt_irrefl g) h
theorem jt_So_ext {a3 b3 : Nat → Int32} {l : List Nat} (h : jt_So a3 l) (k : ∀ n, n ∈ l → b3 n = a3 n) : jt_So b3 l := by
  induction l with
  | nil => exact jt_So_nil
  | cons p l ih =>
    rw [jt_So_cons] at h ⊢
    refine ⟨fun q hq => ?_, ih h.2 (fun n hn => k n (List.mem_cons_of_mem _ hn))⟩
    rw [k p List.mem_cons_self, k q (List.mem_cons_of_mem _ hq)]
    exact h.1 q hq
theorem jt_mid {a3 : Nat → Int32} {ll rl : List Nat} {p : Nat} (h : jt_So a3 (ll ++ p :: rl)) : jt_So a3 ll ∧ jt_So a3 rl ∧ (∀ n, n ∈ ll → a3 n < a3 p) ∧ (∀ n, n ∈ rl → a3 p < a3 n) ∧ (∀ n, n ∈ ll → ∀ m, m ∈ rl → a3 n < a3 m) := by
  obtain ⟨h1, h2, h3⟩ := jt_So_app.mp h
  obtain ⟨h4, h5⟩ := jt_So_cons.mp h2
  exact ⟨h1, h5, fun n hn => h3 n hn p List.mem_cons_self, h4, fun n hn m hm => h3 n hn m (List.mem_cons_of_mem _ hm)⟩
theorem jt_ltne {a3 : Nat → Int32} {p q : Nat} (h : a3 p < a3 q) : p ≠ q := fun e => by rw [e] at h; exact Int32.lt_irrefl h
end
section
section
variable {fc we lo hi ex : Int32} {a1 a2 a3 a4 a5 a6 a7 a8 a9 a10 a11 a12 a13 : Nat → Int32}
theorem jt_weight {post : Int32 → Prop} {n c : Nat} (hn : n < 256) (e : a4 n = nI c) (hp : post (nI c + 1)) : wpX_weight post (fc, we, lo, hi, ex, a1, a2, a3, a4, a5, a6, a7, a8, a9, a10, a11, a12, a13) (nI n) := by
  refine And.intro (jt_in hn) ?_
  rw [jt_cl hn, e]
  exact hp
theorem jt_update {post : St2 → Prop} {n l r cl cr : Nat} (hn : n < 256) (hl : l < 256) (hr : r < 256) (hc : cl + cr < 127) (e1 : a1 n = nI l) (e2 : a2 n = nI r) (e3 : a4 l = nI cl) (e4 : a4 r = nI cr)
    (hp : post (fc, we, lo, hi, ex, a1, a2, a3, upd a4 n (nI (cl + cr + 1)), a5, a6, a7, a8, a9, a10, a11, a12, a13)) : wpX_update post (fc, we, lo, hi, ex, a1, a2, a3, a4, a5, a6, a7, a8, a9, a10, a11, a12, a13) (nI n) := by
  unfold wpX_update
  dsimp only
  rw [jt_cl hn, e1, e2, jt_cl hl, jt_cl hr, e3, e4]
  refine ⟨jt_in hn, jt_in hl, jt_in hn, jt_in hr, jt_in hn, nm_r ?_ hp⟩
  rw [nI_add, nI_1, jt_s8 _ (by omega)]
theorem jt_update_4 {post : St2 → Prop} {n l r cl cr : Nat} (hn : n < 256) (hl : l < 256) (hr : r < 256) (hc : cl + cr < 127) (e1 : a1 n = nI l) (e2 : a2 n = nI r) (e3 : a4 l = nI cl) (e4 : a4 r = nI cr)
    (hp : post (fc, we, lo, hi, ex, a1, a2, a3, upd a4 n (nI (cl + cr + 1)), a5, a6, a7, a8, a9, a10, a11, a12, a13)) : wpX_update_4 post (fc, we, lo, hi, ex, a1, a2, a3, a4, a5, a6, a7, a8, a9, a10, a11, a12, a13) (nI n) := by
  unfold wpX_update_4
  dsimp only
  rw [jt_cl hn, e1, e2, jt_cl hl, jt_cl hr, e3, e4]
  refine ⟨jt_in hn, jt_in hl, jt_in hn, jt_in hr, jt_in hn, nm_r ?_ hp⟩
  rw [nI_add, nI_1, jt_s8 _ (by omega)]
theorem jt_balanced {post : Int32 → St2 → Prop} {n l r cl cr : Nat} (hn : n < 256) (hl : l < 256) (hr : r < 256) (hcl : cl < 3) (hcr : cr < 3) (e1 : a1 n = nI l) (e2 : a2 n = nI r) (e3 : a4 l = nI cl) (e4 : a4 r = nI cr) (nl : l ≠ n) (nr : r ≠ n)
    (hp : post (nI n) (fc, we, lo, hi, ex, a1, a2, a3, upd a4 n (nI (cl + cr + 1)), a5, a6, a7, a8, a9, a10, a11, a12, a13)) : wpX_balanced post (fc, we, lo, hi, ex, a1, a2, a3, a4, a5, a6, a7, a8, a9, a10, a11, a12, a13) (nI n) := by
  unfold wpX_balanced
  dsimp only
  refine jt_update hn hl hr (by omega) e1 e2 e3 e4 ?_
  dsimp only
  rw [jt_cl hn, e1, e2]
  refine ⟨jt_in hn, nm_e ⟨jt_in hn, nm_e ?_⟩⟩
  have e3' : upd a4 n (nI (cl + cr + 1)) l = nI cl := (pk_un nl).trans e3
  have e4' : upd a4 n (nI (cl + cr + 1)) r = nI cr := (pk_un nr).trans e4
  refine jt_weight hr e4' (jt_weight hl e3' (br_t (jt_w3 _ hcr _ hcl) ?_))
  exact jt_weight hl e3' (jt_weight hr e4' (br_t (jt_w3 _ hcl _ hcr) hp))
theorem jt_balanced_2 {post : Int32 → St2 → Prop} {n l r cl cr : Nat} (hn : n < 256) (hl : l < 256) (hr : r < 256) (hcl : cl < 3) (hcr : cr < 3) (e1 : a1 n = nI l) (e2 : a2 n = nI r) (e3 : a4 l = nI cl) (e4 : a4 r = nI cr) (nl : l ≠ n) (nr : r ≠ n)
    (hp : post (nI n) (fc, we, lo, hi, ex, a1, a2, a3, upd a4 n (nI (cl + cr + 1)), a5, a6, a7, a8, a9, a10, a11, a12, a13)) : wpX_balanced_2 post (fc, we, lo, hi, ex, a1, a2, a3, a4, a5, a6, a7, a8, a9, a10, a11, a12, a13) (nI n) := by
  unfold wpX_balanced_2
  dsimp only
  refine jt_update_4 hn hl hr (by omega) e1 e2 e3 e4 ?_
  dsimp only
  rw [jt_cl hn, e1, e2]
  refine ⟨jt_in hn, nm_e ⟨jt_in hn, nm_e ?_⟩⟩
  have e3' : upd a4 n (nI (cl + cr + 1)) l = nI cl := (pk_un nl).trans e3
  have e4' : upd a4 n (nI (cl + cr + 1)) r = nI cr := (pk_un nr).trans e4
  refine jt_weight hr e4' (jt_weight hl e3' (br_t (jt_w3 _ hcr _ hcl) ?_))
  exact jt_weight hl e3' (jt_weight hr e4' (br_t (jt_w3 _ hcl _ hcr) hp))
theorem jt_join {post : Int32 → St2 → Prop} {a m b ca cb : Nat} (ha : a < 256) (hm : m < 256) (hb : b < 256) (hca : ca < 3) (hcb : cb < 3) (ea : a4 a = nI ca) (eb : a4 b = nI cb) (na : a ≠ m) (nb : b ≠ m)
    (hp : post (nI m) (fc, we, lo, hi, ex, upd a1 m (nI a), upd a2 m (nI b), a3, upd a4 m (nI (ca + cb + 1)), a5, a6, a7, a8, a9, a10, a11, a12, a13)) : wpX_join post (fc, we, lo, hi, ex, a1, a2, a3, a4, a5, a6, a7, a8, a9, a10, a11, a12, a13) (nI a) (nI m) (nI b) := by
  unfold wpX_join
  dsimp only
  refine jt_weight ha ea (jt_weight hb eb (br_t (jt_w3 _ hca _ hcb) ?_))
  unfold wX_join_32
  refine jt_weight hb eb (jt_weight ha ea (br_t (jt_w3 _ hcb _ hca) ⟨0 + 1, ?_⟩))
  refine br_t rfl ⟨0 + 1, br_t rfl ?_⟩
  unfold wX_join_136
  rw [jt_cl hm, jt_s16 _ ha, jt_s16 _ hb]
  refine ⟨jt_in hm, nm_e ⟨jt_in hm, nm_e ?_⟩⟩
  refine jt_balanced hm ha hb hca hcb pk_us pk_us ea eb na nb ?_
  exact ⟨0 + 1, br_t (Int32.le_refl _) hp⟩
theorem jt_join_2 {post : Int32 → St2 → Prop} {a m b ca cb : Nat} (ha : a < 256) (hm : m < 256) (hb : b < 256) (hca : ca < 3) (hcb : cb < 3) (ea : a4 a = nI ca) (eb : a4 b = nI cb) (na : a ≠ m) (nb : b ≠ m)
    (hp : post (nI m) (fc, we, lo, hi, ex, upd a1 m (nI a), upd a2 m (nI b), a3, upd a4 m (nI (ca + cb + 1)), a5, a6, a7, a8, a9, a10, a11, a12, a13)) : wpX_join_2 post (fc, we, lo, hi, ex, a1, a2, a3, a4, a5, a6, a7, a8, a9, a10, a11, a12, a13) (nI a) (nI m) (nI b) := by
  unfold wpX_join_2
  dsimp only
  refine jt_weight ha ea (jt_weight hb eb (br_t (jt_w3 _ hca _ hcb) ?_))
  unfold wX_join_2_32
  refine jt_weight hb eb (jt_weight ha ea (br_t (jt_w3 _ hcb _ hca) ⟨0 + 1, ?_⟩))
  refine br_t rfl ⟨0 + 1, br_t rfl ?_⟩
  unfold wX_join_2_136
  rw [jt_cl hm, jt_s16 _ ha, jt_s16 _ hb]
  refine ⟨jt_in hm, nm_e ⟨jt_in hm, nm_e ?_⟩⟩
  refine jt_balanced_2 hm ha hb hca hcb pk_us pk_us ea eb na nb ?_
  exact ⟨0 + 1, br_t (Int32.le_refl _) hp⟩
theorem jt_newNode {post : Int32 → St2 → Prop} {n : Nat} {F : List Nat} {x : Int32} (hf : jt_FS a6 (n :: F)) (hn : n < 256) (hF : F.length < 256)
    (hp : post (nI n) (nI F.length, we, lo, hi, ex, upd a1 n (nI 0), upd a2 n (nI 0), upd a3 n x, upd a4 n (nI 1), a5, a6, a7, a8, a9, a10, a11, a12, a13)) : wpX_newNode post (nI (F.length + 1), we, lo, hi, ex, a1, a2, a3, a4, a5, a6, a7, a8, a9, a10, a11, a12, a13) x := by
  unfold wpX_newNode
  dsimp only
  refine nm_r (nI_pred F.length) ⟨vp_in_nI hF (by omega), nm_r (e' := nI n) ?_ ?_⟩
  · rw [jt_cl hF]; exact hf.1
  · rw [jt_cl hn]
    exact ⟨jt_in hn, nm_e ⟨jt_in hn, nm_e ⟨jt_in hn, nm_e ⟨jt_in hn, nm_e hp⟩⟩⟩⟩
theorem jt_newNode_2 {post : Int32 → St2 → Prop} {n : Nat} {F : List Nat} {x : Int32} (hf : jt_FS a6 (n :: F)) (hn : n < 256) (hF : F.length < 256)
    (hp : post (nI n) (nI F.length, we, lo, hi, ex, upd a1 n (nI 0), upd a2 n (nI 0), upd a3 n x, upd a4 n (nI 1), a5, a6, a7, a8, a9, a10, a11, a12, a13)) : wpX_newNode_2 post (nI (F.length + 1), we, lo, hi, ex, a1, a2, a3, a4, a5, a6, a7, a8, a9, a10, a11, a12, a13) x := by
  unfold wpX_newNode_2
  dsimp only
  refine nm_r (nI_pred F.length) ⟨vp_in_nI hF (by omega), nm_r (e' := nI n) ?_ ?_⟩
  · rw [jt_cl hF]; exact hf.1
  · rw [jt_cl hn]
    exact ⟨jt_in hn, nm_e ⟨jt_in hn, nm_e ⟨jt_in hn, nm_e ⟨jt_in hn, nm_e hp⟩⟩⟩⟩
theorem jt_newNode_3 {post : Int32 → St2 → Prop} {n : Nat} {F : List Nat} {x : Int32} (hf : jt_FS a6 (n :: F)) (hn : n < 256) (hF : F.length < 256)
    (hp : post (nI n) (nI F.length, we, lo, hi, ex, upd a1 n (nI 0), upd a2 n (nI 0), upd a3 n x, upd a4 n (nI 1), a5, a6, a7, a8, a9, a10, a11, a12, a13)) : wpX_newNode_3 post (nI (F.length + 1), we, lo, hi, ex, a1, a2, a3, a4, a5, a6, a7, a8, a9, a10, a11, a12, a13) x := by
  unfold wpX_newNode_3
  dsimp only
  refine nm_r (nI_pred F.length) ⟨vp_in_nI hF (by omega), nm_r (e' := nI n) ?_ ?_⟩
  · rw [jt_cl hF]; exact hf.1
  · rw [jt_cl hn]
    exact ⟨jt_in hn, nm_e ⟨jt_in hn, nm_e ⟨jt_in hn, nm_e ⟨jt_in hn, nm_e hp⟩⟩⟩⟩
theorem jt_release {post : St2 → Prop} {n : Nat} {F : List Nat} (h0 : 0 < n) (hn : n < 256) (hF : F.length < 256)
    (hp : post (nI (F.length + 1), we, lo, hi, ex, a1, a2, a3, a4, a5, upd a6 F.length (nI n), a7, a8, a9, a10, a11, a12, a13)) : wpX_release post (nI F.length, we, lo, hi, ex, a1, a2, a3, a4, a5, a6, a7, a8, a9, a10, a11, a12, a13) (nI n) := by
  unfold wpX_release
  dsimp only
  refine br_f (jt_nz h0 hn) ⟨vp_in_nI hF (by omega), ?_⟩
  rw [jt_cl hF, jt_s16 _ hn]
  exact nm_e (nm_r (nI_1 _) hp)
theorem jt_relx {post : St2 → Prop} {e : Nat} {el F : List Nat} (he : (e = 0 ∧ el = []) ∨ (0 < e ∧ e < 256 ∧ el = [e])) (hf : jt_FS a6 F) (hF : F.length < 256)
    (hp : ∀ b6, jt_FS b6 (el ++ F) → post (nI (el ++ F).length, we, lo, hi, ex, a1, a2, a3, a4, a5, b6, a7, a8, a9, a10, a11, a12, a13)) : wpX_release post (nI F.length, we, lo, hi, ex, a1, a2, a3, a4, a5, a6, a7, a8, a9, a10, a11, a12, a13) (nI e) := by
  rcases he with ⟨rfl, rfl⟩ | ⟨h0, h1, rfl⟩
  · exact br_t nI_0 (hp a6 hf)
  · exact jt_release h0 h1 hF (hp _ (jt_FS_push hf))
theorem jt_pushWay0 {post : St2 → Prop} {n w : Nat} (hn : n < 256) (hw : w < 64)
    (hp : post (fc, nI (w + 1), lo, hi, ex, a1, a2, a3, a4, a5, a6, upd a7 w (nI n), upd a8 w 0, a9, a10, a11, a12, a13)) : wpX_pushWay post (fc, nI w, lo, hi, ex, a1, a2, a3, a4, a5, a6, a7, a8, a9, a10, a11, a12, a13) (nI n) 0 := by
  unfold wpX_pushWay
  dsimp only
  rw [jt_cl (show w < 256 by omega), jt_s16 _ hn, jt_nz0]
  exact ⟨vp_in_nI hw (by omega), nm_e ⟨vp_in_nI hw (by omega), nm_e (nm_r (nI_1 w) hp)⟩⟩
theorem jt_pushWay1 {post : St2 → Prop} {n w : Nat} (hn : n < 256) (hw : w < 64)
    (hp : post (fc, nI (w + 1), lo, hi, ex, a1, a2, a3, a4, a5, a6, upd a7 w (nI n), upd a8 w 1, a9, a10, a11, a12, a13)) : wpX_pushWay post (fc, nI w, lo, hi, ex, a1, a2, a3, a4, a5, a6, a7, a8, a9, a10, a11, a12, a13) (nI n) 1 := by
  unfold wpX_pushWay
  dsimp only
  rw [jt_cl (show w < 256 by omega), jt_s16 _ hn, jt_nz1]
  exact ⟨vp_in_nI hw (by omega), nm_e ⟨vp_in_nI hw (by omega), nm_e (nm_r (nI_1 w) hp)⟩⟩
theorem jt_pushWay_20 {post : St2 → Prop} {n w : Nat} (hn : n < 256) (hw : w < 64)
    (hp : post (fc, nI (w + 1), lo, hi, ex, a1, a2, a3, a4, a5, a6, upd a7 w (nI n), upd a8 w 0, a9, a10, a11, a12, a13)) : wpX_pushWay_2 post (fc, nI w, lo, hi, ex, a1, a2, a3, a4, a5, a6, a7, a8, a9, a10, a11, a12, a13) (nI n) 0 := by
  unfold wpX_pushWay_2
  dsimp only
  rw [jt_cl (show w < 256 by omega), jt_s16 _ hn, jt_nz0]
  exact ⟨vp_in_nI hw (by omega), nm_e ⟨vp_in_nI hw (by omega), nm_e (nm_r (nI_1 w) hp)⟩⟩
theorem jt_pushWay_21 {post : St2 → Prop} {n w : Nat} (hn : n < 256) (hw : w < 64)
    (hp : post (fc, nI (w + 1), lo, hi, ex, a1, a2, a3, a4, a5, a6, upd a7 w (nI n), upd a8 w 1, a9, a10, a11, a12, a13)) : wpX_pushWay_2 post (fc, nI w, lo, hi, ex, a1, a2, a3, a4, a5, a6, a7, a8, a9, a10, a11, a12, a13) (nI n) 1 := by
  unfold wpX_pushWay_2
  dsimp only
  rw [jt_cl (show w < 256 by omega), jt_s16 _ hn, jt_nz1]
  exact ⟨vp_in_nI hw (by omega), nm_e ⟨vp_in_nI hw (by omega), nm_e (nm_r (nI_1 w) hp)⟩⟩
theorem jt_isSet {post : Int32 → Prop} {s : Nat} (hs : s < 4) (hp : post 1) : wpX_isSet post (fc, we, lo, hi, ex, a1, a2, a3, a4, a5, a6, a7, a8, a9, a10, a11, a12, a13) (nI s) := by
  unfold wpX_isSet
  dsimp only
  exact br_f (nI_pos (by omega)) (br_f (nI_nlt (a := 3) (b := s) (by omega) (by omega)) hp)
end
end
section
/-! what a cut at x gives -/
def jt_SP (a1 a2 a3 a4 : Nat → Int32) (x : Int32) (l : List Nat) (lo hi e : Nat) (ll el hl : List Nat) (b1 b2 b4 : Nat → Int32) : Prop :=
  l = ll ++ el ++ hl ∧ (∀ n, n ∈ ll → a3 n < x) ∧ (∀ n, n ∈ el → a3 n = x) ∧ (∀ n, n ∈ hl → x < a3 n) ∧ ((e = 0 ∧ el = []) ∨ (0 < e ∧ e < 256 ∧ el = [e])) ∧ jt_R b1 b2 b4 lo ll ∧ jt_R b1 b2 b4 hi hl ∧ (∀ n, n ∉ l → b1 n = a1 n ∧ b2 n = a2 n ∧ b4 n = a4 n)
theorem jt_SP_left {a1 a2 a3 a4 b1 b2 b4 : Nat → Int32} {x : Int32} {ll rl l1 el hl : List Nat} {r rc lo hi e : Nat} (s : jt_So a3 (ll ++ r :: rl)) (h0 : 0 < r) (h1 : r < 256) (hx : x < a3 r) (tr : jt_R a1 a2 a4 rc rl)
    (h : jt_SP a1 a2 a3 a4 x ll lo hi e l1 el hl b1 b2 b4) :
    jt_SP a1 a2 a3 a4 x (ll ++ r :: rl) lo r e l1 el (hl ++ r :: rl) (upd b1 r (nI hi)) (upd b2 r (nI rc)) (upd b4 r (nI (hl.length + rl.length + 1))) := by
  obtain ⟨_, _, s3, s4, s5⟩ := jt_mid s
  obtain ⟨e0, q1, q2, q3, q4, t1, t2, fr⟩ := h
  have nr : r ∉ ll := fun g => Int32.lt_irrefl (s3 r g)
  have nr2 : r ∉ rl := fun g => Int32.lt_irrefl (s4 r g)
  have nr1 : ∀ n, n ∈ l1 → n ≠ r := fun n hn z => nr (by rw [e0]; simp [← z, hn])
  have nrh : ∀ n, n ∈ hl → n ≠ r := fun n hn z => nr (by rw [e0]; simp [← z, hn])
  have dj : ∀ n, n ∈ rl → n ∉ ll := fun n hn g => Int32.lt_irrefl (s5 n g n hn)
  refine ⟨by rw [e0]; simp, q1, q2, ?_, q4, ?_, ?_, ?_⟩
  · intro n hn
    rcases List.mem_append.mp hn with g | g
    · exact q3 n g
    · rcases List.mem_cons.mp g with g | g
      · rw [g]; exact hx
      · exact Int32.lt_trans hx (s4 n g)
  · exact jt_R_ext t1 (fun n hn => ⟨pk_un (nr1 n hn), pk_un (nr1 n hn), pk_un (nr1 n hn)⟩)
  · refine jt_R_node h0 h1 pk_us pk_us (jt_R_ext t2 (fun n hn => ⟨pk_un (nrh n hn), pk_un (nrh n hn), pk_un (nrh n hn)⟩)) (jt_R_ext tr (fun n hn => ?_)) pk_us
    have z : n ≠ r := fun z => nr2 (z ▸ hn)
    obtain ⟨f1, f2, f4⟩ := fr n (dj n hn)
    exact ⟨(pk_un z).trans f1, (pk_un z).trans f2, (pk_un z).trans f4⟩
  · intro n hn
    have z : n ≠ r := fun z => hn (by rw [z]; simp)
    obtain ⟨f1, f2, f4⟩ := fr n (fun g => hn (by simp [g]))
    exact ⟨(pk_un z).trans f1, (pk_un z).trans f2, (pk_un z).trans f4⟩
theorem jt_SP_right {a1 a2 a3 a4 b1 b2 b4 : Nat → Int32} {x : Int32} {ll rl l1 el hl : List Nat} {r lc lo hi e : Nat} (s : jt_So a3 (ll ++ r :: rl)) (h0 : 0 < r) (h1 : r < 256) (hx : a3 r < x) (tl : jt_R a1 a2 a4 lc ll)
    (h : jt_SP a1 a2 a3 a4 x rl lo hi e l1 el hl b1 b2 b4) :
    jt_SP a1 a2 a3 a4 x (ll ++ r :: rl) r hi e (ll ++ r :: l1) el hl (upd b1 r (nI lc)) (upd b2 r (nI lo)) (upd b4 r (nI (ll.length + l1.length + 1))) := by
  obtain ⟨_, _, s3, s4, s5⟩ := jt_mid s
  obtain ⟨e0, q1, q2, q3, q4, t1, t2, fr⟩ := h
  have nr : r ∉ ll := fun g => Int32.lt_irrefl (s3 r g)
  have nr2 : r ∉ rl := fun g => Int32.lt_irrefl (s4 r g)
  have nr1 : ∀ n, n ∈ l1 → n ≠ r := fun n hn z => nr2 (by rw [e0]; simp [← z, hn])
  have nrh : ∀ n, n ∈ hl → n ≠ r := fun n hn z => nr2 (by rw [e0]; simp [← z, hn])
  have dj : ∀ n, n ∈ ll → n ∉ rl := fun n hn g => Int32.lt_irrefl (s5 n hn n g)
  refine ⟨by rw [e0]; simp, ?_, q2, q3, q4, ?_, ?_, ?_⟩
  · intro n hn
    rcases List.mem_append.mp hn with g | g
    · exact Int32.lt_trans (s3 n g) hx
    · rcases List.mem_cons.mp g with g | g
      · rw [g]; exact hx
      · exact q1 n g
  · refine jt_R_node h0 h1 pk_us pk_us (jt_R_ext tl (fun n hn => ?_)) (jt_R_ext t1 (fun n hn => ⟨pk_un (nr1 n hn), pk_un (nr1 n hn), pk_un (nr1 n hn)⟩)) pk_us
    have z : n ≠ r := fun z => nr (z ▸ hn)
    obtain ⟨f1, f2, f4⟩ := fr n (dj n hn)
    exact ⟨(pk_un z).trans f1, (pk_un z).trans f2, (pk_un z).trans f4⟩
  · exact jt_R_ext t2 (fun n hn => ⟨pk_un (nrh n hn), pk_un (nrh n hn), pk_un (nrh n hn)⟩)
  · intro n hn
    have z : n ≠ r := fun z => hn (by rw [z]; simp)
    obtain ⟨f1, f2, f4⟩ := fr n (fun g => hn (by simp [g]))
    exact ⟨(pk_un z).trans f1, (pk_un z).trans f2, (pk_un z).trans f4⟩
/-- the way down and, from the hypothesis, the way up -/
theorem jt_descA {post : St2 → Prop} {x fc lo hi ex : Int32} {a3 a5 a6 a9 a10 a11 a12 a13 : Nat → Int32} (N : Nat) : ∀ {w r : Nat} {l : List Nat} {a1 a2 a4 a7 a8 : Nat → Int32}, l.length ≤ N → l.length ≤ 3 → w + l.length < 64 → jt_R a1 a2 a4 r l → jt_So a3 l → a4 0 = nI 0 →
    (∀ (lo' hi' e : Nat) (ll el hl : List Nat) (b1 b2 b4 b7 b8 : Nat → Int32), jt_SP a1 a2 a3 a4 x l lo' hi' e ll el hl b1 b2 b4 → (∀ j, j < w → b7 j = a7 j ∧ b8 j = a8 j) →
      ∃ fu, wX_splitTree_101 post (nI e) fu (nI lo') (nI hi') fc (nI w) lo hi ex b1 b2 a3 b4 a5 a6 b7 b8 a9 a10 a11 a12 a13) →
    ∀ k, N < k → wX_splitTree_7 post x k (nI r) fc (nI w) lo hi ex a1 a2 a3 a4 a5 a6 a7 a8 a9 a10 a11 a12 a13 := by
  have nil : ∀ {w : Nat} {a1 a2 a4 a7 a8 : Nat → Int32}, (∀ (lo' hi' e : Nat) (ll el hl : List Nat) (b1 b2 b4 b7 b8 : Nat → Int32), jt_SP a1 a2 a3 a4 x [] lo' hi' e ll el hl b1 b2 b4 → (∀ j, j < w → b7 j = a7 j ∧ b8 j = a8 j) →
      ∃ fu, wX_splitTree_101 post (nI e) fu (nI lo') (nI hi') fc (nI w) lo hi ex b1 b2 a3 b4 a5 a6 b7 b8 a9 a10 a11 a12 a13) → ∀ k, wX_splitTree_7 post x (k + 1) (nI 0) fc (nI w) lo hi ex a1 a2 a3 a4 a5 a6 a7 a8 a9 a10 a11 a12 a13 := by
    intro w a1 a2 a4 a7 a8 H k
    refine br_t rfl (br_t rfl (br_t rfl ?_))
    exact H 0 0 0 [] [] [] a1 a2 a4 a7 a8 ⟨rfl, (fun n hn => nomatch hn), (fun n hn => nomatch hn), (fun n hn => nomatch hn), Or.inl ⟨rfl, rfl⟩, jt_R_nil, jt_R_nil, fun n _ => ⟨rfl, rfl, rfl⟩⟩ (fun j _ => ⟨rfl, rfl⟩)
  induction N with
  | zero =>
    intro w r l a1 a2 a4 a7 a8 hN _ _ t _ _ H k hk
    have e : l = [] := List.eq_nil_of_length_eq_zero (by omega)
    subst e
    have e := jt_R_e t
    subst e
    obtain ⟨k, rfl⟩ : ∃ j, k = j + 1 := ⟨k - 1, by omega⟩
    exact nil H k
  | succ N ih =>
    intro w r l a1 a2 a4 a7 a8 hN h3 hw t s z H k hk
    obtain ⟨k, rfl⟩ : ∃ j, k = j + 1 := ⟨k - 1, by omega⟩
    rcases jt_R_cases t with ⟨rfl, rfl⟩ | ⟨h0, h1, lc, rc, ll, rl, e1, e2, t1, t2, e, c⟩
    · exact nil H k
    · subst e
      have hlen : (ll ++ r :: rl).length = ll.length + rl.length + 1 := by rw [List.length_append, List.length_cons]; omega
      rw [hlen] at hN h3 hw
      obtain ⟨s1, s2, s3, s4, s5⟩ := jt_mid s
      have nr : r ∉ ll := fun g => Int32.lt_irrefl (s3 r g)
      have nr2 : r ∉ rl := fun g => Int32.lt_irrefl (s4 r g)
      refine br_f (jt_nz h0 h1) (And.intro (jt_in h1) ?_)
      rw [jt_cl h1]
      refine br_c (fun hx => ?_) (fun hx => And.intro (jt_in h1) (br_c (fun hle => ?_) (fun hle => ?_)))
      · -- the element itself
        refine br_f (jt_nz h0 h1) (And.intro (jt_in h1) ?_)
        refine br_f (jt_nz h0 h1) (And.intro (jt_in h1) ?_)
        rw [jt_cl h1, e1, e2]
        refine nm_e ?_
        refine H lc rc r ll [r] rl a1 a2 a4 a7 a8 ⟨by simp, fun n hn => hx ▸ s3 n hn, fun n hn => ?_, fun n hn => hx ▸ s4 n hn, Or.inr ⟨h0, h1, rfl⟩, t1, t2, fun n _ => ⟨rfl, rfl, rfl⟩⟩ (fun j _ => ⟨rfl, rfl⟩)
        rw [List.mem_singleton.mp hn]; exact hx
      · -- to the left
        have hlt : x < a3 r := Int32.lt_of_le_of_ne hle (fun g => hx g.symm)
        unfold wX_splitTree_36
        refine jt_pushWay0 h1 (by omega) ?_
        dsimp only
        refine br_t rfl (And.intro (jt_in h1) ?_)
        rw [jt_cl h1, e1]
        refine nm_e (ih (w := w + 1) (l := ll) (by omega) (by omega) (by omega) t1 s1 z ?_ k (by omega))
        intro lo' hi' e l1 el hl b1 b2 b4 b7 b8 sp fr
        obtain ⟨fu, hfu⟩ := H _ _ _ _ _ _ _ _ _ b7 b8 (jt_SP_left s h0 h1 hlt t2 sp) (fun j hj => by
          obtain ⟨f7, f8⟩ := fr j (by omega)
          exact ⟨f7.trans (pk_un (by omega)), f8.trans (pk_un (by omega))⟩)
        obtain ⟨e0, q1, q2, q3, q4, r1, r2, ff⟩ := sp
        obtain ⟨f7, f8⟩ := fr w (by omega)
        rw [pk_us] at f7 f8
        have hl1 : hl.length ≤ ll.length := by rw [e0]; simp only [List.length_append]; omega
        have z' : b4 0 = nI 0 := (ff 0 (jt_R_n0 t1)).2.2.trans z
        have r3 : jt_R b1 b2 b4 rc rl := jt_R_ext t2 (fun n hn => ff n (fun g => Int32.lt_irrefl (s5 n g n hn)))
        have nh : hi' ≠ r := fun g => by
          have := jt_R_mem r2 (by omega)
          exact nr (by rw [e0]; simp [← g, this])
        have nc : rc ≠ r := fun g => nr2 (g ▸ jt_R_mem t2 (by omega))
        refine ⟨fu + 1, ?_⟩
        refine br_f (nI_nle (by omega) (by omega)) ?_
        rw [nI_pred, jt_cl (show w < 256 by omega), f7, f8]
        refine And.intro (vp_in_nI (by omega) (by omega)) (nm_e (And.intro (vp_in_nI (by omega) (by omega)) (nm_e (nm_e (br_t rfl (And.intro (jt_in h1) ?_))))))
        rw [jt_cl h1, (ff r nr).2.1, e2]
        exact jt_join (jt_R_lt r2) h1 (jt_R_lt t2) (by omega) (by omega) (jt_R_cnt z' r2) (jt_R_cnt z' r3) nh nc hfu
      · -- to the right
        have hlt : a3 r < x := Int32.not_le.mp hle
        unfold wX_splitTree_36
        refine jt_pushWay1 h1 (by omega) ?_
        dsimp only
        refine br_f (by decide) (And.intro (jt_in h1) ?_)
        rw [jt_cl h1, e2]
        refine nm_e (ih (w := w + 1) (l := rl) (by omega) (by omega) (by omega) t2 s2 z ?_ k (by omega))
        intro lo' hi' e l1 el hl b1 b2 b4 b7 b8 sp fr
        obtain ⟨fu, hfu⟩ := H _ _ _ _ _ _ _ _ _ b7 b8 (jt_SP_right s h0 h1 hlt t1 sp) (fun j hj => by
          obtain ⟨f7, f8⟩ := fr j (by omega)
          exact ⟨f7.trans (pk_un (by omega)), f8.trans (pk_un (by omega))⟩)
        obtain ⟨e0, q1, q2, q3, q4, r1, r2, ff⟩ := sp
        obtain ⟨f7, f8⟩ := fr w (by omega)
        rw [pk_us] at f7 f8
        have hl1 : l1.length ≤ rl.length := by rw [e0]; simp only [List.length_append]; omega
        have z' : b4 0 = nI 0 := (ff 0 (jt_R_n0 t2)).2.2.trans z
        have r3 : jt_R b1 b2 b4 lc ll := jt_R_ext t1 (fun n hn => ff n (fun g => Int32.lt_irrefl (s5 n hn n g)))
        have nh : lo' ≠ r := fun g => by
          have := jt_R_mem r1 (by omega)
          exact nr2 (by rw [e0]; simp [← g, this])
        have nc : lc ≠ r := fun g => nr (g ▸ jt_R_mem t1 (by omega))
        refine ⟨fu + 1, ?_⟩
        refine br_f (nI_nle (by omega) (by omega)) ?_
        rw [nI_pred, jt_cl (show w < 256 by omega), f7, f8]
        refine And.intro (vp_in_nI (by omega) (by omega)) (nm_e (And.intro (vp_in_nI (by omega) (by omega)) (nm_e (nm_e (br_f (by decide) (And.intro (jt_in h1) ?_))))))
        rw [jt_cl h1, (ff r nr2).1, e1]
        exact jt_join (jt_R_lt t1) h1 (jt_R_lt r1) (by omega) (by omega) (jt_R_cnt z' r3) (jt_R_cnt z' r1) nc nh hfu
/-- a cut: the two parts and the element itself (a tree of its own) -/
theorem jt_splitTree {post : St2 → Prop} {x fc we lo hi ex : Int32} {a1 a2 a3 a4 a5 a6 a7 a8 a9 a10 a11 a12 a13 : Nat → Int32} {r : Nat} {l : List Nat} (h3 : l.length ≤ 3) (t : jt_R a1 a2 a4 r l) (s : jt_So a3 l) (z : a4 0 = nI 0)
    (hp : ∀ (lo' hi' e : Nat) (ll el hl : List Nat) (b1 b2 b4 b7 b8 : Nat → Int32), jt_SP a1 a2 a3 a4 x l lo' hi' e ll el hl b1 b2 b4 → jt_R b1 b2 b4 e el → post (fc, 0, nI lo', nI hi', nI e, b1, b2, a3, b4, a5, a6, b7, b8, a9, a10, a11, a12, a13)) :
    wpX_splitTree post (fc, we, lo, hi, ex, a1, a2, a3, a4, a5, a6, a7, a8, a9, a10, a11, a12, a13) (nI r) x := by
  refine ⟨l.length + 1, ?_⟩
  refine jt_descA l.length (w := 0) (Nat.le_refl _) h3 (by omega) t s z ?_ _ (by omega)
  intro lo' hi' e ll el hl b1 b2 b4 b7 b8 sp _
  have sp' := sp
  obtain ⟨e0, q1, q2, q3, q4, r1, r2, ff⟩ := sp
  refine ⟨0 + 1, br_t (by decide) ?_⟩
  rcases q4 with ⟨rfl, rfl⟩ | ⟨h0, h1, rfl⟩
  · exact br_t rfl (hp _ _ _ _ _ _ _ _ _ _ _ sp' jt_R_nil)
  · refine br_f (jt_nz h0 h1) ?_
    rw [jt_cl h1]
    have n1 : ∀ n, n ∈ ll → n ≠ e := fun n hn g => by
      have := q1 n hn
      rw [g, q2 e (by simp)] at this
      exact Int32.lt_irrefl this
    have n2 : ∀ n, n ∈ hl → n ≠ e := fun n hn g => by
      have := q3 n hn
      rw [g, q2 e (by simp)] at this
      exact Int32.lt_irrefl this
    refine And.intro (jt_in h1) (nm_e (And.intro (jt_in h1) (nm_e (And.intro (jt_in h1) (nm_e (hp lo' hi' e ll [e] hl _ _ _ _ _ ⟨e0, q1, q2, q3, Or.inr ⟨h0, h1, rfl⟩, ?_, ?_, ?_⟩ (jt_R_one h0 h1 pk_us pk_us pk_us)))))))
    · exact jt_R_ext r1 (fun n hn => ⟨pk_un (n1 n hn), pk_un (n1 n hn), pk_un (n1 n hn)⟩)
    · exact jt_R_ext r2 (fun n hn => ⟨pk_un (n2 n hn), pk_un (n2 n hn), pk_un (n2 n hn)⟩)
    · intro n hn
      have g : n ≠ e := fun g => hn (by rw [e0, g]; simp)
      obtain ⟨f1, f2, f4⟩ := ff n hn
      exact ⟨(pk_un g).trans f1, (pk_un g).trans f2, (pk_un g).trans f4⟩
/-- the way down and, from the hypothesis, the way up -/
theorem jt_descB {post : St2 → Prop} {x fc lo hi ex : Int32} {a3 a5 a6 a9 a10 a11 a12 a13 : Nat → Int32} (N : Nat) : ∀ {w r : Nat} {l : List Nat} {a1 a2 a4 a7 a8 : Nat → Int32}, l.length ≤ N → l.length ≤ 3 → w + l.length < 64 → jt_R a1 a2 a4 r l → jt_So a3 l → a4 0 = nI 0 →
    (∀ (lo' hi' e : Nat) (ll el hl : List Nat) (b1 b2 b4 b7 b8 : Nat → Int32), jt_SP a1 a2 a3 a4 x l lo' hi' e ll el hl b1 b2 b4 → (∀ j, j < w → b7 j = a7 j ∧ b8 j = a8 j) →
      ∃ fu, wX_splitTree_2_101 post (nI e) fu (nI lo') (nI hi') fc (nI w) lo hi ex b1 b2 a3 b4 a5 a6 b7 b8 a9 a10 a11 a12 a13) →
    ∀ k, N < k → wX_splitTree_2_7 post x k (nI r) fc (nI w) lo hi ex a1 a2 a3 a4 a5 a6 a7 a8 a9 a10 a11 a12 a13 := by
  have nil : ∀ {w : Nat} {a1 a2 a4 a7 a8 : Nat → Int32}, (∀ (lo' hi' e : Nat) (ll el hl : List Nat) (b1 b2 b4 b7 b8 : Nat → Int32), jt_SP a1 a2 a3 a4 x [] lo' hi' e ll el hl b1 b2 b4 → (∀ j, j < w → b7 j = a7 j ∧ b8 j = a8 j) →
      ∃ fu, wX_splitTree_2_101 post (nI e) fu (nI lo') (nI hi') fc (nI w) lo hi ex b1 b2 a3 b4 a5 a6 b7 b8 a9 a10 a11 a12 a13) → ∀ k, wX_splitTree_2_7 post x (k + 1) (nI 0) fc (nI w) lo hi ex a1 a2 a3 a4 a5 a6 a7 a8 a9 a10 a11 a12 a13 := by
    intro w a1 a2 a4 a7 a8 H k
    refine br_t rfl (br_t rfl (br_t rfl ?_))
    exact H 0 0 0 [] [] [] a1 a2 a4 a7 a8 ⟨rfl, (fun n hn => nomatch hn), (fun n hn => nomatch hn), (fun n hn => nomatch hn), Or.inl ⟨rfl, rfl⟩, jt_R_nil, jt_R_nil, fun n _ => ⟨rfl, rfl, rfl⟩⟩ (fun j _ => ⟨rfl, rfl⟩)
  induction N with
  | zero =>
    intro w r l a1 a2 a4 a7 a8 hN _ _ t _ _ H k hk
    have e : l = [] := List.eq_nil_of_length_eq_zero (by omega)
    subst e
    have e := jt_R_e t
    subst e
    obtain ⟨k, rfl⟩ : ∃ j, k = j + 1 := ⟨k - 1, by omega⟩
    exact nil H k
  | succ N ih =>
    intro w r l a1 a2 a4 a7 a8 hN h3 hw t s z H k hk
    obtain ⟨k, rfl⟩ : ∃ j, k = j + 1 := ⟨k - 1, by omega⟩
    rcases jt_R_cases t with ⟨rfl, rfl⟩ | ⟨h0, h1, lc, rc, ll, rl, e1, e2, t1, t2, e, c⟩
    · exact nil H k
    · subst e
      have hlen : (ll ++ r :: rl).length = ll.length + rl.length + 1 := by rw [List.length_append, List.length_cons]; omega
      rw [hlen] at hN h3 hw
      obtain ⟨s1, s2, s3, s4, s5⟩ := jt_mid s
      have nr : r ∉ ll := fun g => Int32.lt_irrefl (s3 r g)
      have nr2 : r ∉ rl := fun g => Int32.lt_irrefl (s4 r g)
      refine br_f (jt_nz h0 h1) (And.intro (jt_in h1) ?_)
      rw [jt_cl h1]
      refine br_c (fun hx => ?_) (fun hx => And.intro (jt_in h1) (br_c (fun hle => ?_) (fun hle => ?_)))
      · -- the element itself
        refine br_f (jt_nz h0 h1) (And.intro (jt_in h1) ?_)
        refine br_f (jt_nz h0 h1) (And.intro (jt_in h1) ?_)
        rw [jt_cl h1, e1, e2]
        refine nm_e ?_
        refine H lc rc r ll [r] rl a1 a2 a4 a7 a8 ⟨by simp, fun n hn => hx ▸ s3 n hn, fun n hn => ?_, fun n hn => hx ▸ s4 n hn, Or.inr ⟨h0, h1, rfl⟩, t1, t2, fun n _ => ⟨rfl, rfl, rfl⟩⟩ (fun j _ => ⟨rfl, rfl⟩)
        rw [List.mem_singleton.mp hn]; exact hx
      · -- to the left
        have hlt : x < a3 r := Int32.lt_of_le_of_ne hle (fun g => hx g.symm)
        unfold wX_splitTree_2_36
        refine jt_pushWay_20 h1 (by omega) ?_
        dsimp only
        refine br_t rfl (And.intro (jt_in h1) ?_)
        rw [jt_cl h1, e1]
        refine nm_e (ih (w := w + 1) (l := ll) (by omega) (by omega) (by omega) t1 s1 z ?_ k (by omega))
        intro lo' hi' e l1 el hl b1 b2 b4 b7 b8 sp fr
        obtain ⟨fu, hfu⟩ := H _ _ _ _ _ _ _ _ _ b7 b8 (jt_SP_left s h0 h1 hlt t2 sp) (fun j hj => by
          obtain ⟨f7, f8⟩ := fr j (by omega)
          exact ⟨f7.trans (pk_un (by omega)), f8.trans (pk_un (by omega))⟩)
        obtain ⟨e0, q1, q2, q3, q4, r1, r2, ff⟩ := sp
        obtain ⟨f7, f8⟩ := fr w (by omega)
        rw [pk_us] at f7 f8
        have hl1 : hl.length ≤ ll.length := by rw [e0]; simp only [List.length_append]; omega
        have z' : b4 0 = nI 0 := (ff 0 (jt_R_n0 t1)).2.2.trans z
        have r3 : jt_R b1 b2 b4 rc rl := jt_R_ext t2 (fun n hn => ff n (fun g => Int32.lt_irrefl (s5 n g n hn)))
        have nh : hi' ≠ r := fun g => by
          have := jt_R_mem r2 (by omega)
          exact nr (by rw [e0]; simp [← g, this])
        have nc : rc ≠ r := fun g => nr2 (g ▸ jt_R_mem t2 (by omega))
        refine ⟨fu + 1, ?_⟩
        refine br_f (nI_nle (by omega) (by omega)) ?_
        rw [nI_pred, jt_cl (show w < 256 by omega), f7, f8]
        refine And.intro (vp_in_nI (by omega) (by omega)) (nm_e (And.intro (vp_in_nI (by omega) (by omega)) (nm_e (nm_e (br_t rfl (And.intro (jt_in h1) ?_))))))
        rw [jt_cl h1, (ff r nr).2.1, e2]
        exact jt_join_2 (jt_R_lt r2) h1 (jt_R_lt t2) (by omega) (by omega) (jt_R_cnt z' r2) (jt_R_cnt z' r3) nh nc hfu
      · -- to the right
        have hlt : a3 r < x := Int32.not_le.mp hle
        unfold wX_splitTree_2_36
        refine jt_pushWay_21 h1 (by omega) ?_
        dsimp only
        refine br_f (by decide) (And.intro (jt_in h1) ?_)
        rw [jt_cl h1, e2]
        refine nm_e (ih (w := w + 1) (l := rl) (by omega) (by omega) (by omega) t2 s2 z ?_ k (by omega))
        intro lo' hi' e l1 el hl b1 b2 b4 b7 b8 sp fr
        obtain ⟨fu, hfu⟩ := H _ _ _ _ _ _ _ _ _ b7 b8 (jt_SP_right s h0 h1 hlt t1 sp) (fun j hj => by
          obtain ⟨f7, f8⟩ := fr j (by omega)
          exact ⟨f7.trans (pk_un (by omega)), f8.trans (pk_un (by omega))⟩)
        obtain ⟨e0, q1, q2, q3, q4, r1, r2, ff⟩ := sp
        obtain ⟨f7, f8⟩ := fr w (by omega)
        rw [pk_us] at f7 f8
        have hl1 : l1.length ≤ rl.length := by rw [e0]; simp only [List.length_append]; omega
        have z' : b4 0 = nI 0 := (ff 0 (jt_R_n0 t2)).2.2.trans z
        have r3 : jt_R b1 b2 b4 lc ll := jt_R_ext t1 (fun n hn => ff n (fun g => Int32.lt_irrefl (s5 n hn n g)))
        have nh : lo' ≠ r := fun g => by
          have := jt_R_mem r1 (by omega)
          exact nr2 (by rw [e0]; simp [← g, this])
        have nc : lc ≠ r := fun g => nr (g ▸ jt_R_mem t1 (by omega))
        refine ⟨fu + 1, ?_⟩
        refine br_f (nI_nle (by omega) (by omega)) ?_
        rw [nI_pred, jt_cl (show w < 256 by omega), f7, f8]
        refine And.intro (vp_in_nI (by omega) (by omega)) (nm_e (And.intro (vp_in_nI (by omega) (by omega)) (nm_e (nm_e (br_f (by decide) (And.intro (jt_in h1) ?_))))))
        rw [jt_cl h1, (ff r nr2).1, e1]
        exact jt_join_2 (jt_R_lt t1) h1 (jt_R_lt r1) (by omega) (by omega) (jt_R_cnt z' r3) (jt_R_cnt z' r1) nc nh hfu
/-- a cut: the two parts and the element itself (a tree of its own) -/
theorem jt_splitTree_2 {post : St2 → Prop} {x fc we lo hi ex : Int32} {a1 a2 a3 a4 a5 a6 a7 a8 a9 a10 a11 a12 a13 : Nat → Int32} {r : Nat} {l : List Nat} (h3 : l.length ≤ 3) (t : jt_R a1 a2 a4 r l) (s : jt_So a3 l) (z : a4 0 = nI 0)
    (hp : ∀ (lo' hi' e : Nat) (ll el hl : List Nat) (b1 b2 b4 b7 b8 : Nat → Int32), jt_SP a1 a2 a3 a4 x l lo' hi' e ll el hl b1 b2 b4 → jt_R b1 b2 b4 e el → post (fc, 0, nI lo', nI hi', nI e, b1, b2, a3, b4, a5, a6, b7, b8, a9, a10, a11, a12, a13)) :
    wpX_splitTree_2 post (fc, we, lo, hi, ex, a1, a2, a3, a4, a5, a6, a7, a8, a9, a10, a11, a12, a13) (nI r) x := by
  refine ⟨l.length + 1, ?_⟩
  refine jt_descB l.length (w := 0) (Nat.le_refl _) h3 (by omega) t s z ?_ _ (by omega)
  intro lo' hi' e ll el hl b1 b2 b4 b7 b8 sp _
  have sp' := sp
  obtain ⟨e0, q1, q2, q3, q4, r1, r2, ff⟩ := sp
  refine ⟨0 + 1, br_t (by decide) ?_⟩
  rcases q4 with ⟨rfl, rfl⟩ | ⟨h0, h1, rfl⟩
  · exact br_t rfl (hp _ _ _ _ _ _ _ _ _ _ _ sp' jt_R_nil)
  · refine br_f (jt_nz h0 h1) ?_
    rw [jt_cl h1]
    have n1 : ∀ n, n ∈ ll → n ≠ e := fun n hn g => by
      have := q1 n hn
      rw [g, q2 e (by simp)] at this
      exact Int32.lt_irrefl this
    have n2 : ∀ n, n ∈ hl → n ≠ e := fun n hn g => by
      have := q3 n hn
      rw [g, q2 e (by simp)] at this
      exact Int32.lt_irrefl this
    refine And.intro (jt_in h1) (nm_e (And.intro (jt_in h1) (nm_e (And.intro (jt_in h1) (nm_e (hp lo' hi' e ll [e] hl _ _ _ _ _ ⟨e0, q1, q2, q3, Or.inr ⟨h0, h1, rfl⟩, ?_, ?_, ?_⟩ (jt_R_one h0 h1 pk_us pk_us pk_us)))))))
    · exact jt_R_ext r1 (fun n hn => ⟨pk_un (n1 n hn), pk_un (n1 n hn), pk_un (n1 n hn)⟩)
    · exact jt_R_ext r2 (fun n hn => ⟨pk_un (n2 n hn), pk_un (n2 n hn), pk_un (n2 n hn)⟩)
    · intro n hn
      have g : n ≠ e := fun g => hn (by rw [e0, g]; simp)
      obtain ⟨f1, f2, f4⟩ := ff n hn
      exact ⟨(pk_un g).trans f1, (pk_un g).trans f2, (pk_un g).trans f4⟩
end
section
/-! has, at, size -/
section
variable {fc we lo hi ex : Int32} {a1 a2 a3 a4 a5 a6 a7 a8 a9 a10 a11 a12 a13 : Nat → Int32}
theorem jt_has17 {post : Int32 → Prop} {x : Int32} (N : Nat) : ∀ {r : Nat} {l : List Nat}, l.length ≤ N → jt_R a1 a2 a4 r l → jt_So a3 l → ((∃ n, n ∈ l ∧ a3 n = x) → post 1) → ((∀ n, n ∈ l → ¬ a3 n = x) → post 0) →
    ∀ k, N < k → wX_has_17 post x fc we lo hi ex a1 a2 a3 a4 a5 a6 a7 a8 a9 a10 a11 a12 a13 k (nI r) := by
  induction N with
  | zero =>
    intro r l hN t _ _ H0 k hk
    have e : l = [] := List.eq_nil_of_length_eq_zero (by omega)
    subst e
    have e := jt_R_e t
    subst e
    obtain ⟨k, rfl⟩ : ∃ j, k = j + 1 := ⟨k - 1, by omega⟩
    exact br_t rfl (br_t rfl (H0 (fun n hn => nomatch hn)))
  | succ N ih =>
    intro r l hN t s H1 H0 k hk
    obtain ⟨k, rfl⟩ : ∃ j, k = j + 1 := ⟨k - 1, by omega⟩
    rcases jt_R_cases t with ⟨rfl, rfl⟩ | ⟨h0, h1, lc, rc, ll, rl, e1, e2, t1, t2, e, c⟩
    · exact br_t rfl (br_t rfl (H0 (fun n hn => nomatch hn)))
    · subst e
      have hlen : (ll ++ r :: rl).length = ll.length + rl.length + 1 := by rw [List.length_append, List.length_cons]; omega
      rw [hlen] at hN
      obtain ⟨s1, s2, s3, s4, s5⟩ := jt_mid s
      refine br_f (jt_nz h0 h1) (And.intro (jt_in h1) ?_)
      rw [jt_cl h1]
      refine br_c (fun hx => br_f (jt_nz h0 h1) (H1 ⟨r, by simp, hx⟩)) (fun hx => And.intro (jt_in h1) (br_c (fun hle => ?_) (fun hle => ?_)))
      · have hlt : a3 r < x := Int32.lt_of_le_of_ne hle hx
        refine And.intro (jt_in h1) (nm_r e2 (ih (by omega) t2 s2 (fun ⟨n, hn, g⟩ => H1 ⟨n, by simp [hn], g⟩) (fun g => H0 (fun n hn => ?_)) k (by omega)))
        rcases List.mem_append.mp hn with q | q
        · exact fun z => Int32.lt_irrefl (Int32.lt_trans (z ▸ s3 n q) hlt)
        · rcases List.mem_cons.mp q with q | q
          · rw [q]; exact hx
          · exact g n q
      · have hlt : x < a3 r := Int32.not_le.mp hle
        refine And.intro (jt_in h1) (nm_r e1 (ih (by omega) t1 s1 (fun ⟨n, hn, g⟩ => H1 ⟨n, by simp [hn], g⟩) (fun g => H0 (fun n hn => ?_)) k (by omega)))
        rcases List.mem_append.mp hn with q | q
        · exact g n q
        · rcases List.mem_cons.mp q with q | q
          · rw [q]; exact hx
          · exact fun z => Int32.lt_irrefl (Int32.lt_trans (z ▸ s4 n q) hlt)
theorem jt_has {post : Int32 → Prop} {x : Int32} {s r : Nat} {l : List Nat} (hs : s < 4) (e5 : a5 s = nI r) (t : jt_R a1 a2 a4 r l) (so : jt_So a3 l) (H1 : (∃ n, n ∈ l ∧ a3 n = x) → post 1) (H0 : (∀ n, n ∈ l → ¬ a3 n = x) → post 0) : wpX_has post (fc, we, lo, hi, ex, a1, a2, a3, a4, a5, a6, a7, a8, a9, a10, a11, a12, a13) (nI s) x := by
  unfold wpX_has
  dsimp only
  refine jt_isSet hs (br_f (by decide) ⟨vp_in_nI hs (by omega), ?_⟩)
  rw [jt_cl (show s < 256 by omega), e5]
  exact nm_e ⟨l.length + 1, jt_has17 l.length (Nat.le_refl _) t so H1 H0 _ (by omega)⟩
theorem jt_at39 {post : Int32 → Prop} (z : a4 0 = nI 0) (N : Nat) : ∀ {r i : Nat} {l : List Nat}, l.length ≤ N → l.length ≤ 100 → i < l.length → jt_R a1 a2 a4 r l → (∀ n, l[i]? = some n → post (a3 n)) →
    ∀ k, N < k → wX_at_39 post fc we lo hi ex a1 a2 a3 a4 a5 a6 a7 a8 a9 a10 a11 a12 a13 k (nI r) (nI i) := by
  induction N with
  | zero => intro r i l hN _ hi; omega
  | succ N ih =>
    intro r i l hN h100 hi t H k hk
    obtain ⟨k, rfl⟩ : ∃ j, k = j + 1 := ⟨k - 1, by omega⟩
    rcases jt_R_cases t with ⟨rfl, rfl⟩ | ⟨h0, h1, lc, rc, ll, rl, e1, e2, t1, t2, e, c⟩
    · exact absurd hi (Nat.not_lt_zero _)
    · subst e
      have hlen : (ll ++ r :: rl).length = ll.length + rl.length + 1 := by rw [List.length_append, List.length_cons]; omega
      rw [hlen] at hN hi h100
      refine And.intro (jt_in h1) ?_
      rw [jt_cl h1, e1, e2, jt_cl (jt_R_lt t1), jt_R_cnt z t1]
      refine And.intro (jt_in (jt_R_lt t1)) (pk_eq i ll.length (fun g => And.intro (jt_in h1) (H r (by rw [g]; simp))) (fun g => And.intro (jt_in h1) (And.intro (jt_in (jt_R_lt t1)) (pk_le ll.length i (fun g2 => ?_) (fun g2 => ?_)))))
      · refine And.intro (jt_in h1) (And.intro (jt_in (jt_R_lt t1)) (nm_r (e' := nI (i - (ll.length + 1))) ?_ (And.intro (jt_in h1) (nm_e (ih (by omega) (by omega) (by omega) t2 (fun n hn => H n ?_) k (by omega))))))
        · rw [nI_1, pk_sub (by omega)]
        · rw [List.getElem?_append_right (by omega), show i - ll.length = (i - (ll.length + 1)) + 1 by omega, List.getElem?_cons_succ]
          exact hn
      · refine And.intro (jt_in h1) (nm_e (ih (by omega) (by omega) (by omega) t1 (fun n hn => H n ?_) k (by omega)))
        rw [List.getElem?_append_left (by omega)]
        exact hn
theorem jt_at {post : Int32 → Prop} {s r i : Nat} {l : List Nat} (z : a4 0 = nI 0) (hs : s < 4) (e5 : a5 s = nI r) (t : jt_R a1 a2 a4 r l) (hl : l.length ≤ 100) (hI : i < l.length) (H : ∀ n, l[i]? = some n → post (a3 n)) : wpX_at post (fc, we, lo, hi, ex, a1, a2, a3, a4, a5, a6, a7, a8, a9, a10, a11, a12, a13) (nI s) (nI i) := by
  unfold wpX_at
  dsimp only
  refine jt_isSet hs (br_f (by decide) (br_f (nI_pos (by omega)) ⟨vp_in_nI hs (by omega), ?_⟩))
  rw [jt_cl (show s < 256 by omega), e5, jt_cl (jt_R_lt t), jt_R_cnt z t]
  exact ⟨jt_in (jt_R_lt t), br_t (nI_lt hI (by omega)) ⟨vp_in_nI hs (by omega), nm_e ⟨l.length + 1, jt_at39 z l.length (Nat.le_refl _) hl hI t H _ (by omega)⟩⟩⟩
theorem jt_size {post : Int32 → Prop} {s r : Nat} {l : List Nat} (z : a4 0 = nI 0) (hs : s < 4) (e5 : a5 s = nI r) (t : jt_R a1 a2 a4 r l) (H : post (nI l.length)) : wpX_size post (fc, we, lo, hi, ex, a1, a2, a3, a4, a5, a6, a7, a8, a9, a10, a11, a12, a13) (nI s) := by
  unfold wpX_size
  dsimp only
  refine jt_isSet hs (br_f (by decide) ⟨vp_in_nI hs (by omega), ?_⟩)
  rw [jt_cl (show s < 256 by omega), e5, jt_cl (jt_R_lt t), jt_R_cnt z t]
  exact ⟨jt_in (jt_R_lt t), H⟩
end
/-! a tree is given back -/
theorem jt_relL {post : St2 → Prop} {lo hi ex : Int32} {a1 a2 a3 a4 a5 a9 a10 a11 a12 a13 : Nat → Int32} (N : Nat) : ∀ {w r k : Nat} {l F : List Nat} {a6 a7 a8 : Nat → Int32}, l.length ≤ N → w + l.length < 63 → jt_R a1 a2 a4 r l → a7 w = nI r → jt_FS a6 F → F.length + l.length < 256 →
    (∀ (F' : List Nat) (b6 b7 b8 : Nat → Int32), F'.Perm (l ++ F) → jt_FS b6 F' → (∀ j, j < w → b7 j = a7 j) → wX_releaseTree_11 post k (nI F'.length) (nI w) lo hi ex a1 a2 a3 a4 a5 b6 b7 b8 a9 a10 a11 a12 a13) →
    wX_releaseTree_11 post (k + (2 * l.length + 1)) (nI F.length) (nI (w + 1)) lo hi ex a1 a2 a3 a4 a5 a6 a7 a8 a9 a10 a11 a12 a13 := by
  have nil : ∀ {w k : Nat} {F : List Nat} {a6 a7 a8 : Nat → Int32}, w < 63 → a7 w = nI 0 → jt_FS a6 F →
      (∀ (F' : List Nat) (b6 b7 b8 : Nat → Int32), F'.Perm ([] ++ F) → jt_FS b6 F' → (∀ j, j < w → b7 j = a7 j) → wX_releaseTree_11 post k (nI F'.length) (nI w) lo hi ex a1 a2 a3 a4 a5 b6 b7 b8 a9 a10 a11 a12 a13) →
      wX_releaseTree_11 post (k + 1) (nI F.length) (nI (w + 1)) lo hi ex a1 a2 a3 a4 a5 a6 a7 a8 a9 a10 a11 a12 a13 := by
    intro w k F a6 a7 a8 hw e7 hf H
    refine br_f (nI_nle (by omega) (by omega)) (nm_r (nI_pred w) (And.intro (vp_in_nI (by omega) (by omega)) ?_))
    rw [jt_cl (show w < 256 by omega), e7]
    exact nm_e (br_t rfl (H F a6 a7 a8 (List.Perm.refl _) hf (fun _ _ => rfl)))
  induction N with
  | zero =>
    intro w r k l F a6 a7 a8 hN hw t e7 hf hF H
    have e : l = [] := List.eq_nil_of_length_eq_zero (by omega)
    subst e
    have e := jt_R_e t
    subst e
    exact nil (by omega) e7 hf H
  | succ N ih =>
    intro w r k l F a6 a7 a8 hN hw t e7 hf hF H
    rcases jt_R_cases t with ⟨rfl, rfl⟩ | ⟨h0, h1, lc, rc, ll, rl, e1, e2, t1, t2, e, c⟩
    · exact nil (by omega) e7 hf H
    · subst e
      have hlen : (ll ++ r :: rl).length = ll.length + rl.length + 1 := by rw [List.length_append, List.length_cons]; omega
      rw [hlen] at hN hw hF
      have ek : k + (2 * (ll ++ r :: rl).length + 1) = ((k + (2 * ll.length + 1)) + (2 * rl.length + 1)) + 1 := by rw [hlen]; omega
      rw [ek]
      refine br_f (nI_nle (by omega) (by omega)) (nm_r (nI_pred w) (And.intro (vp_in_nI (by omega) (by omega)) ?_))
      rw [jt_cl (show w < 256 by omega), e7]
      refine nm_e (br_f (jt_nz h0 h1) (jt_release h0 h1 (by omega) (And.intro (jt_in h1) ?_)))
      rw [jt_cl h1, e1]
      refine jt_pushWay0 (jt_R_lt t1) (by omega) (And.intro (jt_in h1) ?_)
      rw [e2]
      refine jt_pushWay0 (jt_R_lt t2) (by omega) ?_
      refine ih (w := w + 1) (F := r :: F) (by omega) (by omega) t2 pk_us (jt_FS_push hf) (by rw [List.length_cons]; omega) (fun F1 b6 b7 b8 p1 hf1 fr1 => ?_)
      have hF1 : F1.length = rl.length + (F.length + 1) := by rw [p1.length_eq, List.length_append, List.length_cons]
      refine ih (w := w) (F := F1) (by omega) (by omega) t1 ?_ hf1 (by omega) (fun F2 c6 c7 c8 p2 hf2 fr2 => H F2 c6 c7 c8 ?_ hf2 (fun j hj => ?_))
      · rw [fr1 w (by omega), pk_un (by omega), pk_us]
      · refine jt_pm fun a => ?_
        have q1 := p1.count_eq a
        have q2 := p2.count_eq a
        simp only [List.count_append, List.count_cons] at q1 q2 ⊢
        omega
      · rw [fr2 j hj, fr1 j (by omega), pk_un (by omega), pk_un (by omega)]
section
variable {fc we lo hi ex : Int32} {a1 a2 a3 a4 a5 a6 a7 a8 a9 a10 a11 a12 a13 : Nat → Int32}
theorem jt_releaseTree {post : St2 → Prop} {r : Nat} {l F : List Nat} (t : jt_R a1 a2 a4 r l) (hl : l.length ≤ 10) (hf : jt_FS a6 F) (hF : F.length + l.length < 256)
    (H : ∀ (F' : List Nat) (b6 b7 b8 : Nat → Int32), F'.Perm (l ++ F) → jt_FS b6 F' → post (nI F'.length, nI 0, lo, hi, ex, a1, a2, a3, a4, a5, b6, b7, b8, a9, a10, a11, a12, a13)) : wpX_releaseTree post (nI F.length, we, lo, hi, ex, a1, a2, a3, a4, a5, a6, a7, a8, a9, a10, a11, a12, a13) (nI r) := by
  unfold wpX_releaseTree
  refine jt_pushWay0 (w := 0) (jt_R_lt t) (by omega) ?_
  refine Exists.intro (1 + (2 * l.length + 1)) ?_
  exact jt_relL l.length (w := 0) (k := 1) (Nat.le_refl _) (by omega) t pk_us hf hF (fun F' b6 b7 b8 p hf' _ => br_t (by decide) (H F' b6 b7 b8 p hf'))
end
/-! two trees are joined by the last of the first -/
theorem jt_last {a3 : Nat → Int32} {x : Int32} {p ll el hl : List Nat} {r : Nat} (e : p ++ [r] = ll ++ el ++ hl) (hx : a3 r = x) (q1 : ∀ n, n ∈ ll → a3 n < x) (q3 : ∀ n, n ∈ hl → x < a3 n) (q4 : el = [] ∨ ∃ e, el = [e]) : ll = p ∧ el = [r] ∧ hl = [] := by
  rcases List.eq_nil_or_concat hl with g | ⟨h', b, g⟩
  · subst g
    rw [List.append_nil] at e
    rcases q4 with rfl | ⟨y, rfl⟩
    · rw [List.append_nil] at e
      have : r ∈ ll := by rw [← e]; simp
      exact absurd (hx ▸ q1 r this) Int32.lt_irrefl
    · have h := List.append_inj' e rfl
      exact ⟨h.1.symm, h.2.symm, rfl⟩
  · rw [List.concat_eq_append] at g
    subst g
    rw [← List.append_assoc] at e
    have h := (List.append_inj' e rfl).2
    have hb : r = b := by simpa using h
    exact absurd (hx ▸ q3 r (by rw [hb]; simp)) Int32.lt_irrefl
theorem jt_joinTwo8 {post : Int32 → St2 → Prop} {fc we lo hi ex : Int32} {a1 a2 a3 a4 a5 a6 a7 a8 a9 a10 a11 a12 a13 : Nat → Int32} {a b : Nat} {la lb : List Nat} (ha : la.length ≤ 2) (hb : lb.length ≤ 2) (ta : jt_R a1 a2 a4 a la) (tb : jt_R a1 a2 a4 b lb) (sa : jt_So a3 la) (dj : ∀ n, n ∈ la → n ∉ lb) (z : a4 0 = nI 0)
    (H : ∀ (r : Nat) (lo' hi' ex' : Int32) (b1 b2 b4 b7 b8 : Nat → Int32), jt_R b1 b2 b4 r (la ++ lb) → (∀ n, n ∉ la ++ lb → b1 n = a1 n ∧ b2 n = a2 n ∧ b4 n = a4 n) → post (nI r) (fc, 0, lo', hi', ex', b1, b2, a3, b4, a5, a6, b7, b8, a9, a10, a11, a12, a13)) (N : Nat) :
    ∀ {r : Nat} {p l : List Nat}, l.length ≤ N → 0 < r → jt_R a1 a2 a4 r l → la = p ++ l → ∀ k, N ≤ k → wX_joinTwo_8 post (nI a) (nI b) fc we lo hi ex a1 a2 a3 a4 a5 a6 a7 a8 a9 a10 a11 a12 a13 k (nI r) := by
  induction N with
  | zero =>
    intro r p l hN h0 t _ k hk
    have e : l = [] := List.eq_nil_of_length_eq_zero (by omega)
    subst e
    exact absurd (jt_R_e t) (by omega)
  | succ N ih =>
    intro r p l hN h0 t el k hk
    obtain ⟨k, rfl⟩ : ∃ j, k = j + 1 := ⟨k - 1, by omega⟩
    rcases jt_R_cases t with ⟨rfl, rfl⟩ | ⟨_, h1, lc, rc, ll, rl, e1, e2, t1, t2, e, c⟩
    · omega
    · subst e
      have hlen : (ll ++ r :: rl).length = ll.length + rl.length + 1 := by rw [List.length_append, List.length_cons]; omega
      rw [hlen] at hN
      refine And.intro (jt_in h1) ?_
      rw [jt_cl h1, e2]
      refine pk_eq rc 0 (fun g => And.intro (jt_in h1) ?_) (fun g => And.intro (jt_in h1) (nm_e (ih (p := p ++ ll ++ [r]) (by omega) (by omega) t2 (by rw [el]; simp) k (by omega)))) rfl rfl (by have := jt_R_lt t2; omega) (by omega)
      subst g
      have g := jt_R_0 t2
      subst g
      refine jt_splitTree_2 (by omega) ta sa z ?_
      intro lo' hi' e l1 el' hl b1 b2 b4 b7 b8 sp te
      dsimp only
      obtain ⟨e0, q1, q2, q3, q4, r1, r2, ff⟩ := sp
      have el2 : la = (p ++ ll) ++ [r] := by rw [el]; simp
      have key := jt_last (el2.symm.trans e0) rfl q1 q3 (by rcases q4 with g | g; exact Or.inl g.2; exact Or.inr ⟨_, g.2.2⟩)
      obtain ⟨k1, k2, k3⟩ := key
      subst k1 k2 k3
      have ee : e = r := by
        rcases q4 with g | g
        · exact absurd g.2 (by simp)
        · have := g.2.2
          simpa using this.symm
      subst ee
      have hla : la.length = (p ++ ll).length + 1 := by rw [el2, List.length_append]; rfl
      have tb' : jt_R b1 b2 b4 b lb := jt_R_ext tb (fun n hn => ff n (fun g => dj n g hn))
      have z' : b4 0 = nI 0 := (ff 0 (jt_R_n0 ta)).2.2.trans z
      have nn : ∀ n, n ∈ p ++ ll → n ≠ e := fun n hn g => Int32.lt_irrefl (g ▸ q1 n hn)
      have ne : e ∉ lb := dj e (by rw [el2]; simp)
      refine jt_join_2 (jt_R_lt r1) h1 (jt_R_lt tb) (by omega) (by omega) (jt_R_cnt z' r1) (jt_R_cnt z' tb') (fun g => nn lo' (jt_R_mem r1 (by omega)) g) (fun g => ne (g ▸ jt_R_mem tb (by omega))) ?_
      refine H _ _ _ _ _ _ _ _ _ ?_ ?_
      · rw [el2, List.append_assoc]
        exact jt_R_node h0 h1 pk_us pk_us (jt_R_ext r1 (fun n hn => ⟨pk_un (nn n hn), pk_un (nn n hn), pk_un (nn n hn)⟩)) (jt_R_ext tb' (fun n hn => by
          have g : n ≠ e := fun g => ne (g ▸ hn)
          exact ⟨pk_un g, pk_un g, pk_un g⟩)) pk_us
      · intro n hn
        have g : n ≠ e := fun g => hn (by rw [g, el2]; simp)
        obtain ⟨f1, f2, f4⟩ := ff n (fun q => hn (List.mem_append_left _ q))
        exact ⟨(pk_un g).trans f1, (pk_un g).trans f2, (pk_un g).trans f4⟩
theorem jt_joinTwo {post : Int32 → St2 → Prop} {fc we lo hi ex : Int32} {a1 a2 a3 a4 a5 a6 a7 a8 a9 a10 a11 a12 a13 : Nat → Int32} {a b : Nat} {la lb : List Nat} (ha : la.length ≤ 2) (hb : lb.length ≤ 2) (ta : jt_R a1 a2 a4 a la) (tb : jt_R a1 a2 a4 b lb) (sa : jt_So a3 la) (dj : ∀ n, n ∈ la → n ∉ lb) (z : a4 0 = nI 0)
    (H : ∀ (r : Nat) (we' lo' hi' ex' : Int32) (b1 b2 b4 b7 b8 : Nat → Int32), jt_R b1 b2 b4 r (la ++ lb) → (∀ n, n ∉ la ++ lb → b1 n = a1 n ∧ b2 n = a2 n ∧ b4 n = a4 n) → post (nI r) (fc, we', lo', hi', ex', b1, b2, a3, b4, a5, a6, b7, b8, a9, a10, a11, a12, a13)) :
    wpX_joinTwo post (fc, we, lo, hi, ex, a1, a2, a3, a4, a5, a6, a7, a8, a9, a10, a11, a12, a13) (nI a) (nI b) := by
  unfold wpX_joinTwo
  dsimp only
  rcases Nat.eq_zero_or_pos a with g | g
  · subst g
    have e := jt_R_0 ta
    subst e
    exact br_t rfl (H b we lo hi ex a1 a2 a4 a7 a8 tb (fun n _ => ⟨rfl, rfl, rfl⟩))
  · exact br_f (jt_nz g (jt_R_lt ta)) ⟨la.length, jt_joinTwo8 ha hb ta tb sa dj z (fun r lo' hi' ex' b1 b2 b4 b7 b8 => H r 0 lo' hi' ex' b1 b2 b4 b7 b8) la.length (p := []) (l := la) (Nat.le_refl _) g ta rfl _ (Nat.le_refl _)⟩
theorem jt_joinTwo_28 {post : Int32 → St2 → Prop} {fc we lo hi ex : Int32} {a1 a2 a3 a4 a5 a6 a7 a8 a9 a10 a11 a12 a13 : Nat → Int32} {a b : Nat} {la lb : List Nat} (ha : la.length ≤ 2) (hb : lb.length ≤ 2) (ta : jt_R a1 a2 a4 a la) (tb : jt_R a1 a2 a4 b lb) (sa : jt_So a3 la) (dj : ∀ n, n ∈ la → n ∉ lb) (z : a4 0 = nI 0)
    (H : ∀ (r : Nat) (lo' hi' ex' : Int32) (b1 b2 b4 b7 b8 : Nat → Int32), jt_R b1 b2 b4 r (la ++ lb) → (∀ n, n ∉ la ++ lb → b1 n = a1 n ∧ b2 n = a2 n ∧ b4 n = a4 n) → post (nI r) (fc, 0, lo', hi', ex', b1, b2, a3, b4, a5, a6, b7, b8, a9, a10, a11, a12, a13)) (N : Nat) :
    ∀ {r : Nat} {p l : List Nat}, l.length ≤ N → 0 < r → jt_R a1 a2 a4 r l → la = p ++ l → ∀ k, N ≤ k → wX_joinTwo_2_8 post (nI a) (nI b) fc we lo hi ex a1 a2 a3 a4 a5 a6 a7 a8 a9 a10 a11 a12 a13 k (nI r) := by
  induction N with
  | zero =>
    intro r p l hN h0 t _ k hk
    have e : l = [] := List.eq_nil_of_length_eq_zero (by omega)
    subst e
    exact absurd (jt_R_e t) (by omega)
  | succ N ih =>
    intro r p l hN h0 t el k hk
    obtain ⟨k, rfl⟩ : ∃ j, k = j + 1 := ⟨k - 1, by omega⟩
    rcases jt_R_cases t with ⟨rfl, rfl⟩ | ⟨_, h1, lc, rc, ll, rl, e1, e2, t1, t2, e, c⟩
    · omega
    · subst e
      have hlen : (ll ++ r :: rl).length = ll.length + rl.length + 1 := by rw [List.length_append, List.length_cons]; omega
      rw [hlen] at hN
      refine And.intro (jt_in h1) ?_
      rw [jt_cl h1, e2]
      refine pk_eq rc 0 (fun g => And.intro (jt_in h1) ?_) (fun g => And.intro (jt_in h1) (nm_e (ih (p := p ++ ll ++ [r]) (by omega) (by omega) t2 (by rw [el]; simp) k (by omega)))) rfl rfl (by have := jt_R_lt t2; omega) (by omega)
      subst g
      have g := jt_R_0 t2
      subst g
      refine jt_splitTree (by omega) ta sa z ?_
      intro lo' hi' e l1 el' hl b1 b2 b4 b7 b8 sp te
      dsimp only
      obtain ⟨e0, q1, q2, q3, q4, r1, r2, ff⟩ := sp
      have el2 : la = (p ++ ll) ++ [r] := by rw [el]; simp
      have key := jt_last (el2.symm.trans e0) rfl q1 q3 (by rcases q4 with g | g; exact Or.inl g.2; exact Or.inr ⟨_, g.2.2⟩)
      obtain ⟨k1, k2, k3⟩ := key
      subst k1 k2 k3
      have ee : e = r := by
        rcases q4 with g | g
        · exact absurd g.2 (by simp)
        · have := g.2.2
          simpa using this.symm
      subst ee
      have hla : la.length = (p ++ ll).length + 1 := by rw [el2, List.length_append]; rfl
      have tb' : jt_R b1 b2 b4 b lb := jt_R_ext tb (fun n hn => ff n (fun g => dj n g hn))
      have z' : b4 0 = nI 0 := (ff 0 (jt_R_n0 ta)).2.2.trans z
      have nn : ∀ n, n ∈ p ++ ll → n ≠ e := fun n hn g => Int32.lt_irrefl (g ▸ q1 n hn)
      have ne : e ∉ lb := dj e (by rw [el2]; simp)
      refine jt_join (jt_R_lt r1) h1 (jt_R_lt tb) (by omega) (by omega) (jt_R_cnt z' r1) (jt_R_cnt z' tb') (fun g => nn lo' (jt_R_mem r1 (by omega)) g) (fun g => ne (g ▸ jt_R_mem tb (by omega))) ?_
      refine H _ _ _ _ _ _ _ _ _ ?_ ?_
      · rw [el2, List.append_assoc]
        exact jt_R_node h0 h1 pk_us pk_us (jt_R_ext r1 (fun n hn => ⟨pk_un (nn n hn), pk_un (nn n hn), pk_un (nn n hn)⟩)) (jt_R_ext tb' (fun n hn => by
          have g : n ≠ e := fun g => ne (g ▸ hn)
          exact ⟨pk_un g, pk_un g, pk_un g⟩)) pk_us
      · intro n hn
        have g : n ≠ e := fun g => hn (by rw [g, el2]; simp)
        obtain ⟨f1, f2, f4⟩ := ff n (fun q => hn (List.mem_append_left _ q))
        exact ⟨(pk_un g).trans f1, (pk_un g).trans f2, (pk_un g).trans f4⟩
theorem jt_joinTwo_2 {post : Int32 → St2 → Prop} {fc we lo hi ex : Int32} {a1 a2 a3 a4 a5 a6 a7 a8 a9 a10 a11 a12 a13 : Nat → Int32} {a b : Nat} {la lb : List Nat} (ha : la.length ≤ 2) (hb : lb.length ≤ 2) (ta : jt_R a1 a2 a4 a la) (tb : jt_R a1 a2 a4 b lb) (sa : jt_So a3 la) (dj : ∀ n, n ∈ la → n ∉ lb) (z : a4 0 = nI 0)
    (H : ∀ (r : Nat) (we' lo' hi' ex' : Int32) (b1 b2 b4 b7 b8 : Nat → Int32), jt_R b1 b2 b4 r (la ++ lb) → (∀ n, n ∉ la ++ lb → b1 n = a1 n ∧ b2 n = a2 n ∧ b4 n = a4 n) → post (nI r) (fc, we', lo', hi', ex', b1, b2, a3, b4, a5, a6, b7, b8, a9, a10, a11, a12, a13)) :
    wpX_joinTwo_2 post (fc, we, lo, hi, ex, a1, a2, a3, a4, a5, a6, a7, a8, a9, a10, a11, a12, a13) (nI a) (nI b) := by
  unfold wpX_joinTwo_2
  dsimp only
  rcases Nat.eq_zero_or_pos a with g | g
  · subst g
    have e := jt_R_0 ta
    subst e
    exact br_t rfl (H b we lo hi ex a1 a2 a4 a7 a8 tb (fun n _ => ⟨rfl, rfl, rfl⟩))
  · exact br_f (jt_nz g (jt_R_lt ta)) ⟨la.length, jt_joinTwo_28 ha hb ta tb sa dj z (fun r lo' hi' ex' b1 b2 b4 b7 b8 => H r 0 lo' hi' ex' b1 b2 b4 b7 b8) la.length (p := []) (l := la) (Nat.le_refl _) g ta rfl _ (Nat.le_refl _)⟩
end
section
section
variable {fc we lo hi ex : Int32} {a1 a2 a3 a4 a5 a6 a7 a8 a9 a10 a11 a12 a13 : Nat → Int32}
theorem jt_twin {post : Int32 → St2 → Prop} {p c lc rc k : Nat} {F : List Nat} (hp : p < 256) (hc : c < 256) (ne : p ≠ c) (hl : lc < 256) (hr : rc < 256) (hk : k < 128) (e1 : a1 p = nI lc) (e2 : a2 p = nI rc) (e4 : a4 p = nI k) (hf : jt_FS a6 (c :: F)) (hF : F.length < 256)
    (H : ∀ (b1 b2 b3 b4 : Nat → Int32), (b1 c = nI lc ∧ b2 c = nI rc ∧ b3 c = a3 p ∧ b4 c = nI k) → (∀ n, n ≠ c → b1 n = a1 n ∧ b2 n = a2 n ∧ b3 n = a3 n ∧ b4 n = a4 n) → post (nI c) (nI F.length, we, lo, hi, ex, b1, b2, b3, b4, a5, a6, a7, a8, a9, a10, a11, a12, a13)) :
    wpX_twin post (nI (F.length + 1), we, lo, hi, ex, a1, a2, a3, a4, a5, a6, a7, a8, a9, a10, a11, a12, a13) (nI p) := by
  unfold wpX_twin
  refine And.intro (jt_in hp) ?_
  rw [jt_cl hp]
  refine jt_newNode hf hc hF ?_
  refine And.intro (jt_in hp) ?_
  rw [jt_cl hc, pk_un ne, e1, pk_un ne, e2, pk_un ne, e4, jt_ns hl, jt_ns hr, jt_nb hk]
  refine And.intro (jt_in hc) (nm_e (And.intro (jt_in hp) (And.intro (jt_in hc) (nm_e (And.intro (jt_in hp) (And.intro (jt_in hc) (nm_e (H _ _ _ _ ⟨pk_us, pk_us, pk_us, pk_us⟩ (fun n hn => ?_)))))))))
  exact ⟨(pk_un hn).trans (pk_un hn), (pk_un hn).trans (pk_un hn), pk_un hn, (pk_un hn).trans (pk_un hn)⟩
theorem jt_twin_2 {post : Int32 → St2 → Prop} {p c lc rc k : Nat} {F : List Nat} (hp : p < 256) (hc : c < 256) (ne : p ≠ c) (hl : lc < 256) (hr : rc < 256) (hk : k < 128) (e1 : a1 p = nI lc) (e2 : a2 p = nI rc) (e4 : a4 p = nI k) (hf : jt_FS a6 (c :: F)) (hF : F.length < 256)
    (H : ∀ (b1 b2 b3 b4 : Nat → Int32), (b1 c = nI lc ∧ b2 c = nI rc ∧ b3 c = a3 p ∧ b4 c = nI k) → (∀ n, n ≠ c → b1 n = a1 n ∧ b2 n = a2 n ∧ b3 n = a3 n ∧ b4 n = a4 n) → post (nI c) (nI F.length, we, lo, hi, ex, b1, b2, b3, b4, a5, a6, a7, a8, a9, a10, a11, a12, a13)) :
    wpX_twin_2 post (nI (F.length + 1), we, lo, hi, ex, a1, a2, a3, a4, a5, a6, a7, a8, a9, a10, a11, a12, a13) (nI p) := by
  unfold wpX_twin_2
  refine And.intro (jt_in hp) ?_
  rw [jt_cl hp]
  refine jt_newNode_2 hf hc hF ?_
  refine And.intro (jt_in hp) ?_
  rw [jt_cl hc, pk_un ne, e1, pk_un ne, e2, pk_un ne, e4, jt_ns hl, jt_ns hr, jt_nb hk]
  refine And.intro (jt_in hc) (nm_e (And.intro (jt_in hp) (And.intro (jt_in hc) (nm_e (And.intro (jt_in hp) (And.intro (jt_in hc) (nm_e (H _ _ _ _ ⟨pk_us, pk_us, pk_us, pk_us⟩ (fun n hn => ?_)))))))))
  exact ⟨(pk_un hn).trans (pk_un hn), (pk_un hn).trans (pk_un hn), pk_un hn, (pk_un hn).trans (pk_un hn)⟩
theorem jt_twin_3 {post : Int32 → St2 → Prop} {p c lc rc k : Nat} {F : List Nat} (hp : p < 256) (hc : c < 256) (ne : p ≠ c) (hl : lc < 256) (hr : rc < 256) (hk : k < 128) (e1 : a1 p = nI lc) (e2 : a2 p = nI rc) (e4 : a4 p = nI k) (hf : jt_FS a6 (c :: F)) (hF : F.length < 256)
    (H : ∀ (b1 b2 b3 b4 : Nat → Int32), (b1 c = nI lc ∧ b2 c = nI rc ∧ b3 c = a3 p ∧ b4 c = nI k) → (∀ n, n ≠ c → b1 n = a1 n ∧ b2 n = a2 n ∧ b3 n = a3 n ∧ b4 n = a4 n) → post (nI c) (nI F.length, we, lo, hi, ex, b1, b2, b3, b4, a5, a6, a7, a8, a9, a10, a11, a12, a13)) :
    wpX_twin_3 post (nI (F.length + 1), we, lo, hi, ex, a1, a2, a3, a4, a5, a6, a7, a8, a9, a10, a11, a12, a13) (nI p) := by
  unfold wpX_twin_3
  refine And.intro (jt_in hp) ?_
  rw [jt_cl hp]
  refine jt_newNode_3 hf hc hF ?_
  refine And.intro (jt_in hp) ?_
  rw [jt_cl hc, pk_un ne, e1, pk_un ne, e2, pk_un ne, e4, jt_ns hl, jt_ns hr, jt_nb hk]
  refine And.intro (jt_in hc) (nm_e (And.intro (jt_in hp) (And.intro (jt_in hc) (nm_e (And.intro (jt_in hp) (And.intro (jt_in hc) (nm_e (H _ _ _ _ ⟨pk_us, pk_us, pk_us, pk_us⟩ (fun n hn => ?_)))))))))
  exact ⟨(pk_un hn).trans (pk_un hn), (pk_un hn).trans (pk_un hn), pk_un hn, (pk_un hn).trans (pk_un hn)⟩
/-- one turn of the copy's loop at a copy that has no children -/
theorem jt_cop0 {post : Int32 → St2 → Prop} {x2 : Int32} {c k : Nat} (hc : c < 256) (e7 : a7 0 = nI c) (e1 : a1 c = nI 0) (e2 : a2 c = nI 0) (H : wX_copyOf_23 post x2 k fc (nI 0) lo hi ex a1 a2 a3 a4 a5 a6 a7 a8 a9 a10 a11 a12 a13) : wX_copyOf_23 post x2 (k + 1) fc (nI 1) lo hi ex a1 a2 a3 a4 a5 a6 a7 a8 a9 a10 a11 a12 a13 := by
  refine br_f (by decide) (nm_r (nI_pred 0) (And.intro (vp_in_nI (by omega) (by omega)) ?_))
  rw [jt_cl (show 0 < 256 by omega), e7]
  refine nm_e (And.intro (jt_in hc) ?_)
  rw [jt_cl hc, e1]
  refine br_t rfl (And.intro (jt_in hc) ?_)
  rw [jt_cl hc, e2]
  exact br_t rfl H
/-- .. at one whose left child is still the other tree's leaf p -/
theorem jt_copL {post : Int32 → St2 → Prop} {x2 : Int32} {c d p k : Nat} {F : List Nat} (h0 : 0 < p) (hp : p < 256) (hc : c < 256) (hd : d < 256) (np : p ≠ d) (nc : c ≠ d) (e7 : a7 0 = nI c) (e1 : a1 c = nI p) (e2 : a2 c = nI 0) (p1 : a1 p = nI 0) (p2 : a2 p = nI 0) (p4 : a4 p = nI 1) (hf : jt_FS a6 (d :: F)) (hF : F.length < 256)
    (H : ∀ (b1 b2 b3 b4 b7 b8 : Nat → Int32), (b1 d = nI 0 ∧ b2 d = nI 0 ∧ b3 d = a3 p ∧ b4 d = nI 1) → (b1 c = nI d ∧ b2 c = nI 0 ∧ b3 c = a3 c ∧ b4 c = a4 c) → (∀ n, n ≠ d → n ≠ c → b1 n = a1 n ∧ b2 n = a2 n ∧ b3 n = a3 n ∧ b4 n = a4 n) → b7 0 = nI d → wX_copyOf_23 post x2 k (nI F.length) (nI 1) lo hi ex b1 b2 b3 b4 a5 a6 b7 b8 a9 a10 a11 a12 a13) : wX_copyOf_23 post x2 (k + 1) (nI (F.length + 1)) (nI 1) lo hi ex a1 a2 a3 a4 a5 a6 a7 a8 a9 a10 a11 a12 a13 := by
  refine br_f (by decide) (nm_r (nI_pred 0) (And.intro (vp_in_nI (by omega) (by omega)) ?_))
  rw [jt_cl (show 0 < 256 by omega), e7]
  refine nm_e (And.intro (jt_in hc) ?_)
  rw [jt_cl hc, e1]
  refine br_f (jt_nz h0 hp) (And.intro (jt_in hc) ?_)
  refine jt_twin_3 hp hd np (by omega) (by omega) (by omega) p1 p2 p4 hf hF ?_
  intro b1 b2 b3 b4 ⟨q1, q2, q3, q4⟩ fr
  refine And.intro (jt_in hc) ?_
  rw [jt_s16 _ hd]
  refine nm_e (And.intro (jt_in hc) ?_)
  rw [pk_us]
  refine jt_pushWay0 (w := 0) hd (by omega) ?_
  refine And.intro (jt_in hc) ?_
  obtain ⟨f1, f2, f3, f4⟩ := fr c nc
  rw [jt_cl hc, f2, e2]
  refine br_t rfl (H _ _ _ _ _ _ ⟨(pk_un (fun g => nc g.symm)).trans q1, q2, q3, q4⟩ ⟨pk_us, f2.trans e2, f3, f4⟩ (fun n n1 n2 => ?_) pk_us)
  obtain ⟨g1, g2, g3, g4⟩ := fr n n1
  exact ⟨(pk_un n2).trans g1, g2, g3, g4⟩
/-- .. at one whose right child is still the other tree's leaf p -/
theorem jt_copR {post : Int32 → St2 → Prop} {x2 : Int32} {c d p k : Nat} {F : List Nat} (h0 : 0 < p) (hp : p < 256) (hc : c < 256) (hd : d < 256) (np : p ≠ d) (nc : c ≠ d) (e7 : a7 0 = nI c) (e1 : a1 c = nI 0) (e2 : a2 c = nI p) (p1 : a1 p = nI 0) (p2 : a2 p = nI 0) (p4 : a4 p = nI 1) (hf : jt_FS a6 (d :: F)) (hF : F.length < 256)
    (H : ∀ (b1 b2 b3 b4 b7 b8 : Nat → Int32), (b1 d = nI 0 ∧ b2 d = nI 0 ∧ b3 d = a3 p ∧ b4 d = nI 1) → (b1 c = nI 0 ∧ b2 c = nI d ∧ b3 c = a3 c ∧ b4 c = a4 c) → (∀ n, n ≠ d → n ≠ c → b1 n = a1 n ∧ b2 n = a2 n ∧ b3 n = a3 n ∧ b4 n = a4 n) → b7 0 = nI d → wX_copyOf_23 post x2 k (nI F.length) (nI 1) lo hi ex b1 b2 b3 b4 a5 a6 b7 b8 a9 a10 a11 a12 a13) : wX_copyOf_23 post x2 (k + 1) (nI (F.length + 1)) (nI 1) lo hi ex a1 a2 a3 a4 a5 a6 a7 a8 a9 a10 a11 a12 a13 := by
  refine br_f (by decide) (nm_r (nI_pred 0) (And.intro (vp_in_nI (by omega) (by omega)) ?_))
  rw [jt_cl (show 0 < 256 by omega), e7]
  refine nm_e (And.intro (jt_in hc) ?_)
  rw [jt_cl hc, e1]
  refine br_t rfl (And.intro (jt_in hc) ?_)
  rw [jt_cl hc, e2]
  refine br_f (jt_nz h0 hp) (And.intro (jt_in hc) ?_)
  refine jt_twin_2 hp hd np (by omega) (by omega) (by omega) p1 p2 p4 hf hF ?_
  intro b1 b2 b3 b4 ⟨q1, q2, q3, q4⟩ fr
  refine And.intro (jt_in hc) ?_
  rw [jt_s16 _ hd]
  refine nm_e (And.intro (jt_in hc) ?_)
  rw [pk_us]
  refine jt_pushWay0 (w := 0) hd (by omega) ?_
  obtain ⟨f1, f2, f3, f4⟩ := fr c nc
  refine (H _ _ _ _ _ _ ⟨q1, (pk_un (fun g => nc g.symm)).trans q2, q3, q4⟩ ⟨f1.trans e1, pk_us, f3, f4⟩ (fun n n1 n2 => ?_) pk_us)
  obtain ⟨g1, g2, g3, g4⟩ := fr n n1
  exact ⟨g1, (pk_un n2).trans g2, g3, g4⟩
/-- a tree of at most two nodes is copied -/
theorem jt_copyOf {post : Int32 → St2 → Prop} {r : Nat} {l F V : List Nat} (h2 : l.length ≤ 2) (t : jt_R a1 a2 a4 r l) (hf : jt_FS a6 F) (hP : jt_P F V) (hv : V.length ≤ 250) (hl : ∀ n, n ∈ l → n ∈ V)
    (H : ∀ (r' : Nat) (l' F' : List Nat) (we' : Int32) (b1 b2 b3 b4 b7 b8 : Nat → Int32), jt_R b1 b2 b4 r' l' → l'.map b3 = l.map a3 → jt_FS a6 F' → jt_P F' (l' ++ V) → (∀ n, n ∉ F → b1 n = a1 n ∧ b2 n = a2 n ∧ b3 n = a3 n ∧ b4 n = a4 n) → post (nI r') (nI F'.length, we', lo, hi, ex, b1, b2, b3, b4, a5, a6, b7, b8, a9, a10, a11, a12, a13)) :
    wpX_copyOf post (nI F.length, we, lo, hi, ex, a1, a2, a3, a4, a5, a6, a7, a8, a9, a10, a11, a12, a13) (nI r) := by
  unfold wpX_copyOf
  have dj : ∀ n, n ∈ l → n ∉ F := fun n hn g => (List.nodup_append.mp hP.1).2.2 n g n (hl n hn) rfl
  rcases jt_R_cases t with ⟨rfl, rfl⟩ | ⟨h0, h1, lc, rc, ll, rl, e1, e2, t1, t2, e, c4⟩
  · exact br_t rfl (H 0 [] F we a1 a2 a3 a4 a7 a8 jt_R_nil rfl hf hP (fun n _ => ⟨rfl, rfl, rfl, rfl⟩))
  · subst e
    have hlen : (ll ++ r :: rl).length = ll.length + rl.length + 1 := by rw [List.length_append, List.length_cons]; omega
    obtain ⟨c, F1, rfl, c0, c1, cF, cV⟩ := jt_P_more hP (by omega)
    have hP1 := jt_P_new hP
    have hF1 : F1.length < 256 := by have := hP.2.2; rw [List.length_cons] at this; omega
    have nrc : r ≠ c := fun g => dj r (by simp) (by rw [g]; simp)
    refine br_f (jt_nz h0 h1) ?_
    refine jt_twin h1 c1 nrc (jt_R_lt t1) (jt_R_lt t2) (by omega) e1 e2 c4 hf hF1 ?_
    intro b1 b2 b3 b4 ⟨q1, q2, q3, q4⟩ fr
    refine jt_pushWay0 (w := 0) c1 (by omega) ?_
    rcases jt_R_cases t1 with ⟨rfl, rfl⟩ | ⟨l0, l1, lc1, rc1, ll1, rl1, le1, le2, lt1, lt2, lee, lc4⟩
    · rcases jt_R_cases t2 with ⟨rfl, rfl⟩ | ⟨r0, r1, lc2, rc2, ll2, rl2, re1, re2, rt1, rt2, ree, rc4⟩
      · refine Exists.intro (0 + 1 + 1) (jt_cop0 c1 pk_us q1 q2 (br_t rfl ?_))
        refine H c [c] F1 _ _ _ _ _ _ _ (jt_R_one c0 c1 q1 q2 q4) ?_ hf.2 hP1 (fun n hn => fr n (fun g => hn (by rw [g]; simp)))
        rw [List.map_cons, List.map_nil, q3]; rfl
      · subst ree
        have hz : ll2 = [] ∧ rl2 = [] := by
          simp only [List.length_append, List.length_cons, List.length_nil] at hlen h2
          exact ⟨List.eq_nil_of_length_eq_zero (by omega), List.eq_nil_of_length_eq_zero (by omega)⟩
        obtain ⟨rfl, rfl⟩ := hz
        have g := jt_R_e rt1
        subst g
        have g := jt_R_e rt2
        subst g
        obtain ⟨d, F2, rfl, d0, d1, dF, dV⟩ := jt_P_more hP1 (by rw [List.length_cons]; omega)
        have hP2 := jt_P_new hP1
        have ncd : c ≠ d := fun g => cF (by rw [g]; simp)
        have npc : rc ≠ c := fun g => dj rc (by simp) (by rw [g]; simp)
        have npd : rc ≠ d := fun g => dj rc (by simp) (by rw [g]; simp)
        obtain ⟨f1, f2, f3, f4⟩ := fr rc npc
        refine Exists.intro (0 + 1 + 1 + 1) (jt_copR r0 r1 c1 d1 npd ncd pk_us q1 q2 (f1.trans re1) (f2.trans re2) (f4.trans rc4) hf.2 (by rw [List.length_cons] at hF1; omega) ?_)
        intro d1' d2 d3 d4 d7 d8 ⟨u1, u2, u3, u4⟩ ⟨v1, v2, v3, v4⟩ fr2 u7
        refine jt_cop0 d1 u7 u1 u2 (br_t rfl ?_)
        refine H c [c, d] F2 _ _ _ _ _ _ _ (jt_R_node (ll := []) (rl := [d]) c0 c1 v1 v2 jt_R_nil (jt_R_one d0 d1 u1 u2 u4) (v4.trans q4)) ?_ hf.2.2 (jt_P_perm hP2 (jt_pm fun a => by simp only [List.count_append, List.count_cons, List.count_nil]; omega)) (fun n hn => ?_)
        · simp [u3, v3, q3, f3]
        · have n1 : n ≠ c := fun g => hn (by rw [g]; simp)
          have n2 : n ≠ d := fun g => hn (by rw [g]; simp)
          obtain ⟨x1, x2, x3, x4⟩ := fr2 n n2 n1
          obtain ⟨y1, y2, y3, y4⟩ := fr n n1
          exact ⟨x1.trans y1, x2.trans y2, x3.trans y3, x4.trans y4⟩
    · subst lee
      have hz : ll1 = [] ∧ rl1 = [] ∧ rl = [] := by
        simp only [List.length_append, List.length_cons] at hlen h2
        exact ⟨List.eq_nil_of_length_eq_zero (by omega), List.eq_nil_of_length_eq_zero (by omega), List.eq_nil_of_length_eq_zero (by omega)⟩
      obtain ⟨rfl, rfl, rfl⟩ := hz
      have g := jt_R_e lt1
      subst g
      have g := jt_R_e lt2
      subst g
      have g := jt_R_e t2
      subst g
      obtain ⟨d, F2, rfl, d0, d1, dF, dV⟩ := jt_P_more hP1 (by rw [List.length_cons]; omega)
      have hP2 := jt_P_new hP1
      have ncd : c ≠ d := fun g => cF (by rw [g]; simp)
      have npc : lc ≠ c := fun g => dj lc (by simp) (by rw [g]; simp)
      have npd : lc ≠ d := fun g => dj lc (by simp) (by rw [g]; simp)
      obtain ⟨f1, f2, f3, f4⟩ := fr lc npc
      refine Exists.intro (0 + 1 + 1 + 1) (jt_copL l0 l1 c1 d1 npd ncd pk_us q1 q2 (f1.trans le1) (f2.trans le2) (f4.trans lc4) hf.2 (by rw [List.length_cons] at hF1; omega) ?_)
      intro d1' d2 d3 d4 d7 d8 ⟨u1, u2, u3, u4⟩ ⟨v1, v2, v3, v4⟩ fr2 u7
      refine jt_cop0 d1 u7 u1 u2 (br_t rfl ?_)
      refine H c [d, c] F2 _ _ _ _ _ _ _ (jt_R_node (ll := [d]) (rl := []) c0 c1 v1 v2 (jt_R_one d0 d1 u1 u2 u4) jt_R_nil (v4.trans q4)) ?_ hf.2.2 (jt_P_perm hP2 (jt_pm fun a => by simp only [List.count_append, List.count_cons, List.count_nil]; omega)) (fun n hn => ?_)
      · simp [u3, v3, q3, f3]
      · have n1 : n ≠ c := fun g => hn (by rw [g]; simp)
        have n2 : n ≠ d := fun g => hn (by rw [g]; simp)
        obtain ⟨x1, x2, x3, x4⟩ := fr2 n n2 n1
        obtain ⟨y1, y2, y3, y4⟩ := fr n n1
        exact ⟨x1.trans y1, x2.trans y2, x3.trans y3, x4.trans y4⟩
end
end
section
/-! combining, turn by turn -/
section
variable {fc we lo hi ex : Int32} {a1 a2 a3 a4 a5 a6 a7 a8 a9 a10 a11 a12 a13 : Nat → Int32}
theorem jt_cEnd {post : Int32 → St2 → Prop} {x1 x y q : Int32} {k : Nat} (H : post q (fc, we, lo, hi, ex, a1, a2, a3, a4, a5, a6, a7, a8, a9, a10, a11, a12, a13)) : wX_combined_15 post x1 (k + 1) (nI 0) x y q 0 fc we lo hi ex a1 a2 a3 a4 a5 a6 a7 a8 a9 a10 a11 a12 a13 := br_t rfl (br_t (by decide) H)
theorem jt_cSplit {post : Int32 → St2 → Prop} {x1 q : Int32} {t x y k : Nat} {lb F : List Nat} (ht : t < 32) (h0 : 0 < x) (hx : x < 256) (hy : 0 < y) (h3 : lb.length ≤ 3) (tb : jt_R a1 a2 a4 y lb) (sb : jt_So a3 lb) (z : a4 0 = nI 0) (hf : jt_FS a6 F) (hF : F.length < 256)
    (H : ∀ (lo' hi' e : Nat) (ll el hl : List Nat) (b1 b2 b4 b6 b7 b8 b12 : Nat → Int32), jt_SP a1 a2 a3 a4 (a3 x) lb lo' hi' e ll el hl b1 b2 b4 → jt_FS b6 (el ++ F) → (b12 t = if e = 0 then 0 else 1) → (∀ j, j < t → b12 j = a12 j) →
      wX_combined_15 post x1 k (nI (t + 1)) (b1 x) (nI lo') q 1 (nI (el ++ F).length) 0 (nI lo') (nI hi') (nI e) b1 b2 a3 b4 a5 b6 b7 b8 (upd a9 t (nI x)) (upd a10 t (nI hi')) a11 b12 (upd a13 t 0)) :
    wX_combined_15 post x1 (k + 1) (nI t) (nI x) (nI y) q 1 (nI F.length) we lo hi ex a1 a2 a3 a4 a5 a6 a7 a8 a9 a10 a11 a12 a13 := by
  refine br_f (by decide) (br_f (by decide) (br_f (jt_nz h0 hx) (br_f (jt_nz hy (jt_R_lt tb)) (And.intro (jt_in hx) ?_))))
  rw [jt_cl hx]
  refine jt_splitTree h3 tb sb z ?_
  intro lo' hi' e ll el hl b1 b2 b4 b7 b8 sp te
  have sp' := sp
  obtain ⟨_, _, _, _, q4, r1, r2, _⟩ := sp
  refine And.intro (vp_in_nI ht (by omega)) ?_
  rw [jt_cl (show t < 256 by omega), jt_s16 _ hx]
  refine nm_e (And.intro (vp_in_nI ht (by omega)) ?_)
  rw [jt_s16 _ (jt_R_lt r2)]
  refine nm_e ?_
  have q4' := q4
  rcases q4 with ⟨rfl, rfl⟩ | ⟨e0, e1, rfl⟩
  · refine br_t rfl (And.intro (vp_in_nI ht (by omega)) ?_)
    rw [jt_nz0, jt_cl (show t < 256 by omega)]
    refine nm_e (And.intro (vp_in_nI ht (by omega)) (nm_e (jt_relx q4' hf hF (fun b6 hf' => nm_r (nI_1 t) (And.intro (jt_in hx) ?_)))))
    rw [jt_cl hx]
    exact nm_e (H lo' hi' 0 ll [] hl b1 b2 b4 b6 b7 b8 _ sp' hf' pk_us (fun j hj => pk_un (by omega)))
  · refine br_f (jt_nz e0 e1) (And.intro (vp_in_nI ht (by omega)) ?_)
    rw [jt_nz1, jt_cl (show t < 256 by omega)]
    refine nm_e (And.intro (vp_in_nI ht (by omega)) (nm_e (jt_relx q4' hf hF (fun b6 hf' => nm_r (nI_1 t) (And.intro (jt_in hx) ?_)))))
    rw [jt_cl hx]
    exact nm_e (H lo' hi' e ll [e] hl b1 b2 b4 b6 b7 b8 _ sp' hf' (pk_us.trans (if_neg (by omega)).symm) (fun j hj => pk_un (by omega)))
theorem jt_cUa {post : Int32 → St2 → Prop} {t y q : Int32} {k : Nat} (H : wX_combined_15 post 0 k t (nI 0) y y 0 fc we lo hi ex a1 a2 a3 a4 a5 a6 a7 a8 a9 a10 a11 a12 a13) : wX_combined_15 post 0 (k + 1) t (nI 0) y q 1 fc we lo hi ex a1 a2 a3 a4 a5 a6 a7 a8 a9 a10 a11 a12 a13 :=
  br_f (by decide) (br_f (by decide) (br_t rfl (br_f (by decide) (br_t rfl (br_t rfl H)))))
theorem jt_cUb {post : Int32 → St2 → Prop} {t q : Int32} {x k : Nat} (h0 : 0 < x) (hx : x < 256) (H : wX_combined_15 post 0 k t (nI x) (nI 0) (nI x) 0 fc we lo hi ex a1 a2 a3 a4 a5 a6 a7 a8 a9 a10 a11 a12 a13) : wX_combined_15 post 0 (k + 1) t (nI x) (nI 0) q 1 fc we lo hi ex a1 a2 a3 a4 a5 a6 a7 a8 a9 a10 a11 a12 a13 :=
  br_f (by decide) (br_f (by decide) (br_f (jt_nz h0 hx) (br_t rfl (br_f (by decide) (br_t rfl (br_f (jt_nz h0 hx) H))))))
theorem jt_cLa {post : Int32 → St2 → Prop} {t q : Int32} {y k : Nat} {lb F : List Nat} (tb : jt_R a1 a2 a4 y lb) (hl : lb.length ≤ 10) (hf : jt_FS a6 F) (hF : F.length + lb.length < 256)
    (H : ∀ (F' : List Nat) (b6 b7 b8 : Nat → Int32), F'.Perm (lb ++ F) → jt_FS b6 F' → wX_combined_15 post 2 k t (nI 0) (nI y) (nI 0) 0 (nI F'.length) (nI 0) lo hi ex a1 a2 a3 a4 a5 b6 b7 b8 a9 a10 a11 a12 a13) : wX_combined_15 post 2 (k + 1) t (nI 0) (nI y) q 1 (nI F.length) we lo hi ex a1 a2 a3 a4 a5 a6 a7 a8 a9 a10 a11 a12 a13 :=
  br_f (by decide) (br_f (by decide) (br_t rfl (br_f (by decide) (br_f (by decide) (jt_releaseTree tb hl hf hF (fun F' b6 b7 b8 p hf' => br_t rfl (H F' b6 b7 b8 p hf')))))))
theorem jt_cSec {post : Int32 → St2 → Prop} {x1 x y : Int32} {t p u c q k : Nat} (ht : t < 32) (hp : p < 256) (hq : q < 256) (e13 : a13 t = 0) (e9 : a9 t = nI p) (e10 : a10 t = nI u) (e2 : a2 p = nI c)
    (H : wX_combined_15 post x1 k (nI (t + 1)) (nI c) (nI u) (nI q) 1 fc we lo hi ex a1 a2 a3 a4 a5 a6 a7 a8 a9 a10 (upd a11 t (nI q)) a12 (upd a13 t 1)) : wX_combined_15 post x1 (k + 1) (nI (t + 1)) x y (nI q) 0 fc we lo hi ex a1 a2 a3 a4 a5 a6 a7 a8 a9 a10 a11 a12 a13 := by
  refine br_t rfl (br_f (nI_nle (by omega) (by omega)) (br_t rfl (br_t rfl (nm_r (nI_pred t) (And.intro (vp_in_nI ht (by omega)) ?_)))))
  rw [jt_cl (show t < 256 by omega), e13, e9, e10, jt_cl hp, e2, jt_s16 _ hq]
  exact br_t rfl (And.intro (vp_in_nI ht (by omega)) (nm_e (And.intro (vp_in_nI ht (by omega)) (nm_e (And.intro (vp_in_nI ht (by omega)) (And.intro (jt_in hp) (nm_e (And.intro (vp_in_nI ht (by omega)) (nm_e H)))))))))
/-- a frame is finished in a union: its node joins the two parts -/
theorem jt_cFu {post : Int32 → St2 → Prop} {x y : Int32} {t p v u cv cu k : Nat} (ht : t < 32) (hp : p < 256) (hv : v < 256) (hu : u < 256) (hcv : cv < 3) (hcu : cu < 3) (ev : a4 v = nI cv) (eu : a4 u = nI cu) (nv : v ≠ p) (nu : u ≠ p) (e13 : a13 t = 1) (e9 : a9 t = nI p) (e11 : a11 t = nI v)
    (H : wX_combined_15 post 0 k (nI t) x y (nI p) 0 fc 0 lo hi ex (upd a1 p (nI v)) (upd a2 p (nI u)) a3 (upd a4 p (nI (cv + cu + 1))) a5 a6 a7 a8 a9 a10 a11 a12 a13) : wX_combined_15 post 0 (k + 1) (nI (t + 1)) x y (nI u) 0 fc we lo hi ex a1 a2 a3 a4 a5 a6 a7 a8 a9 a10 a11 a12 a13 := by
  refine br_t rfl (br_f (nI_nle (by omega) (by omega)) (br_t rfl (br_t rfl (nm_r (nI_pred t) (And.intro (vp_in_nI ht (by omega)) ?_)))))
  rw [jt_cl (show t < 256 by omega), e13]
  refine br_f (by decide) ?_
  unfold wpX_finished
  refine And.intro (vp_in_nI ht (by omega)) ?_
  rw [jt_cl (show t < 256 by omega), e9]
  refine nm_e (br_t rfl (br_f (by decide) (And.intro (vp_in_nI ht (by omega)) ?_)))
  rw [jt_cl (show t < 256 by omega), e11]
  exact jt_join hv hp hu hcv hcu ev eu nv nu (nm_r (pk_m1 t) H)
/-- .. in a difference whose frame's element is in both, nothing being left below and above -/
theorem jt_cFl {post : Int32 → St2 → Prop} {x y : Int32} {t p k : Nat} {F : List Nat} (ht : t < 32) (h0 : 0 < p) (hp : p < 256) (hF : F.length < 256) (e13 : a13 t = 1) (e9 : a9 t = nI p) (e11 : a11 t = nI 0) (e12 : a12 t = 1)
    (H : wX_combined_15 post 2 k (nI t) x y (nI 0) 0 (nI (F.length + 1)) 0 lo hi ex a1 a2 a3 a4 a5 (upd a6 F.length (nI p)) a7 a8 a9 a10 a11 a12 a13) : wX_combined_15 post 2 (k + 1) (nI (t + 1)) x y (nI 0) 0 (nI F.length) we lo hi ex a1 a2 a3 a4 a5 a6 a7 a8 a9 a10 a11 a12 a13 := by
  refine br_t rfl (br_f (nI_nle (by omega) (by omega)) (br_t rfl (br_t rfl (nm_r (nI_pred t) (And.intro (vp_in_nI ht (by omega)) ?_)))))
  rw [jt_cl (show t < 256 by omega), e13]
  refine br_f (by decide) ?_
  unfold wpX_finished
  refine And.intro (vp_in_nI ht (by omega)) ?_
  rw [jt_cl (show t < 256 by omega), e9, e12]
  refine nm_e (br_f (by decide) (And.intro (vp_in_nI ht (by omega)) (br_f (by decide) (br_f (by decide) (br_t rfl ?_)))))
  refine jt_release h0 hp hF (And.intro (vp_in_nI ht (by omega)) ?_)
  rw [jt_cl (show t < 256 by omega), e11]
  exact br_t rfl (nm_r (pk_m1 t) H)
end
end
section
section
variable {fc we lo hi ex : Int32} {a1 a2 a3 a4 a5 a6 a7 a8 a9 a10 a11 a12 a13 : Nat → Int32}
/-- the union of two trees, all of the second below all of the first, at most two nodes together -/
theorem jt_unite {post : Int32 → St2 → Prop} {a b : Nat} {la lb F : List Nat} (h2 : la.length + lb.length ≤ 2) (ta : jt_R a1 a2 a4 a la) (tb : jt_R a1 a2 a4 b lb) (lt : ∀ n, n ∈ lb → ∀ m, m ∈ la → a3 n < a3 m) (z : a4 0 = nI 0) (hf : jt_FS a6 F) (hF : F.length < 256)
    (H : ∀ (r : Nat) (we' lo' hi' ex' : Int32) (b1 b2 b4 b6 b7 b8 b9 b10 b11 b12 b13 : Nat → Int32), jt_FS b6 F → jt_R b1 b2 b4 r (lb ++ la) → (∀ n, n ∉ la ++ lb → b1 n = a1 n ∧ b2 n = a2 n ∧ b4 n = a4 n) → post (nI r) (nI F.length, we', lo', hi', ex', b1, b2, a3, b4, a5, b6, b7, b8, b9, b10, b11, b12, b13)) :
    wpX_combined post (nI F.length, we, lo, hi, ex, a1, a2, a3, a4, a5, a6, a7, a8, a9, a10, a11, a12, a13) 0 (nI a) (nI b) := by
  rcases jt_R_cases ta with ⟨rfl, rfl⟩ | ⟨p0, p1, lc, rc, ll, rl, e1, e2, t1, t2, ea, c⟩
  · refine Exists.intro (0 + 1 + 1) (jt_cUa (jt_cEnd ?_))
    exact H b _ _ _ _ _ _ _ _ _ _ _ _ _ _ _ hf (by rw [List.append_nil]; exact tb) (fun n _ => ⟨rfl, rfl, rfl⟩)
  · rcases jt_R_cases tb with ⟨rfl, rfl⟩ | ⟨q0, q1, lc2, rc2, ll2, rl2, f1, f2, u1, u2, eb, d⟩
    · refine Exists.intro (0 + 1 + 1) (jt_cUb p0 p1 (jt_cEnd ?_))
      exact H a _ _ _ _ _ _ _ _ _ _ _ _ _ _ _ hf ta (fun n _ => ⟨rfl, rfl, rfl⟩)
    · have la1 : la.length = ll.length + rl.length + 1 := by rw [ea, List.length_append, List.length_cons]; omega
      have lb1 : lb.length = ll2.length + rl2.length + 1 := by rw [eb, List.length_append, List.length_cons]; omega
      have g1 : ll = [] := List.eq_nil_of_length_eq_zero (by omega)
      have g2 : rl = [] := List.eq_nil_of_length_eq_zero (by omega)
      have g3 : ll2 = [] := List.eq_nil_of_length_eq_zero (by omega)
      have g4 : rl2 = [] := List.eq_nil_of_length_eq_zero (by omega)
      subst g1 g2 g3 g4
      have g := jt_R_e t1
      subst g
      have g := jt_R_e t2
      subst g
      have ea' : la = [a] := ea
      have eb' : lb = [b] := eb
      subst ea' eb'
      have hlt : a3 b < a3 a := lt b (by simp) a (by simp)
      have nab : a ≠ b := fun g => Int32.lt_irrefl (g ▸ hlt)
      refine Exists.intro (0 + 1 + 1 + 1 + 1 + 1 + 1) (jt_cSplit (t := 0) (by omega) p0 p1 q0 (by simp) tb (List.pairwise_singleton _ _) z hf hF ?_)
      intro lo' hi' e ll el hl b1 b2 b4 b6 b7 b8 b12 sp hf' _ _
      obtain ⟨s0, s1, s2, s3, s4, r1, r2, ff⟩ := sp
      have hel : el = [] := by
        cases el with
        | nil => rfl
        | cons n el' =>
          have hn : n ∈ [b] := by rw [s0]; simp
          have := s2 n (by simp)
          rw [List.mem_singleton.mp hn] at this
          exact absurd (this ▸ hlt) Int32.lt_irrefl
      have hhl : hl = [] := by
        cases hl with
        | nil => rfl
        | cons n hl' =>
          have hn : n ∈ [b] := by rw [s0]; simp
          have := s3 n (by simp)
          rw [List.mem_singleton.mp hn] at this
          exact absurd (Int32.lt_trans this hlt) Int32.lt_irrefl
      subst hel hhl
      have hll : ll = [b] := by rw [s0]; simp
      subst hll
      have g := jt_R_e r2
      subst g
      obtain ⟨x1, x2, x4⟩ := ff a (by simp [nab])
      have z' : b4 0 = nI 0 := (ff 0 (by simp; omega)).2.2.trans z
      have c4 : b4 lo' = nI 1 := jt_R_cnt z' r1
      rw [x1, e1]
      refine jt_cUa (jt_cSec (p := a) (u := 0) (c := 0) (by omega) p1 (jt_R_lt r1) pk_us pk_us pk_us (x2.trans e2) ?_)
      refine jt_cUa (jt_cFu (p := a) (v := lo') (u := 0) (cv := 1) (cu := 0) (by omega) p1 (jt_R_lt r1) (by omega) (by omega) (by omega) c4 z' ?_ (by omega) pk_us pk_us pk_us ?_)
      · exact fun g => nab (by have := jt_R_mem r1 (by omega); rw [g] at this; simpa using this)
      · refine jt_cEnd (H a _ _ _ _ _ _ _ _ _ _ _ _ _ _ _ hf' ?_ ?_)
        · refine jt_R_node (ll := [b]) (rl := []) p0 p1 pk_us pk_us (jt_R_ext r1 (fun n hn => ?_)) jt_R_nil pk_us
          have : n ≠ a := fun g => nab (by rw [g] at hn; simpa using hn)
          exact ⟨pk_un this, pk_un this, pk_un this⟩
        · intro n hn
          have n1 : n ≠ a := fun g => hn (by rw [g]; simp)
          obtain ⟨y1, y2, y4⟩ := ff n (fun g => hn (by simp at g; rw [g]; simp))
          exact ⟨(pk_un n1).trans y1, (pk_un n1).trans y2, (pk_un n1).trans y4⟩
end
/-- what is in the first and not in the second: nothing, where the first's elements are the second's -/
theorem jt_lessL {post : Int32 → St2 → Prop} {a3 a5 : Nat → Int32} (N : Nat) : ∀ {t x y k : Nat} {q we lo hi ex : Int32} {la lb F V : List Nat} {a1 a2 a4 a6 a7 a8 a9 a10 a11 a12 a13 : Nat → Int32}, la.length ≤ N → lb.length ≤ 3 → t + la.length < 32 → jt_R a1 a2 a4 x la → jt_R a1 a2 a4 y lb → jt_So a3 la → jt_So a3 lb → (∀ n, n ∈ la → ∃ m, m ∈ lb ∧ a3 m = a3 n) → jt_FS a6 F → jt_P F (la ++ lb ++ V) → a4 0 = nI 0 →
    (∀ (F' : List Nat) (x' y' we' lo' hi' ex' : Int32) (b1 b2 b4 b6 b7 b8 b9 b10 b11 b12 b13 : Nat → Int32), jt_FS b6 F' → jt_P F' V → (∀ n, n ∉ la ++ lb → b1 n = a1 n ∧ b2 n = a2 n ∧ b4 n = a4 n) → (∀ j, j < t → b9 j = a9 j ∧ b10 j = a10 j ∧ b11 j = a11 j ∧ b12 j = a12 j ∧ b13 j = a13 j) →
      wX_combined_15 post 2 k (nI t) x' y' (nI 0) 0 (nI F'.length) we' lo' hi' ex' b1 b2 a3 b4 a5 b6 b7 b8 b9 b10 b11 b12 b13) →
    wX_combined_15 post 2 (k + (4 * la.length + 1)) (nI t) (nI x) (nI y) q 1 (nI F.length) we lo hi ex a1 a2 a3 a4 a5 a6 a7 a8 a9 a10 a11 a12 a13 := by
  have nil : ∀ {t y k : Nat} {q we lo hi ex : Int32} {lb F V : List Nat} {a1 a2 a4 a6 a7 a8 a9 a10 a11 a12 a13 : Nat → Int32}, lb.length ≤ 3 → jt_R a1 a2 a4 y lb → jt_FS a6 F → jt_P F ([] ++ lb ++ V) →
      (∀ (F' : List Nat) (x' y' we' lo' hi' ex' : Int32) (b1 b2 b4 b6 b7 b8 b9 b10 b11 b12 b13 : Nat → Int32), jt_FS b6 F' → jt_P F' V → (∀ n, n ∉ [] ++ lb → b1 n = a1 n ∧ b2 n = a2 n ∧ b4 n = a4 n) → (∀ j, j < t → b9 j = a9 j ∧ b10 j = a10 j ∧ b11 j = a11 j ∧ b12 j = a12 j ∧ b13 j = a13 j) →
        wX_combined_15 post 2 k (nI t) x' y' (nI 0) 0 (nI F'.length) we' lo' hi' ex' b1 b2 a3 b4 a5 b6 b7 b8 b9 b10 b11 b12 b13) →
      wX_combined_15 post 2 (k + 1) (nI t) (nI 0) (nI y) q 1 (nI F.length) we lo hi ex a1 a2 a3 a4 a5 a6 a7 a8 a9 a10 a11 a12 a13 := by
    intro t y k q we lo hi ex lb F V a1 a2 a4 a6 a7 a8 a9 a10 a11 a12 a13 h3 tb hf hP H
    have hlen := hP.2.2
    simp only [List.length_append, List.length_nil] at hlen
    refine jt_cLa tb (by omega) hf (by omega) (fun F' b6 b7 b8 p hf' => H F' _ _ _ _ _ _ _ _ _ _ _ _ _ _ _ _ _ hf' (jt_P_perm hP (jt_pm fun a => ?_)) (fun n _ => ⟨rfl, rfl, rfl⟩) (fun j _ => ⟨rfl, rfl, rfl, rfl, rfl⟩))
    have q1 := p.count_eq a
    simp only [List.count_append, List.count_nil] at q1 ⊢
    omega
  induction N with
  | zero =>
    intro t x y k q we lo hi ex la lb F V a1 a2 a4 a6 a7 a8 a9 a10 a11 a12 a13 hN h3 ht ta tb sa sb sub hf hP z H
    have e : la = [] := List.eq_nil_of_length_eq_zero (by omega)
    subst e
    have e := jt_R_e ta
    subst e
    exact nil h3 tb hf hP H
  | succ N ih =>
    intro t x y k q we lo hi ex la lb F V a1 a2 a4 a6 a7 a8 a9 a10 a11 a12 a13 hN h3 ht ta tb sa sb sub hf hP z H
    rcases jt_R_cases ta with ⟨rfl, rfl⟩ | ⟨h0, h1, lc, rc, ll, rl, e1, e2, t1, t2, e, c⟩
    · exact nil h3 tb hf hP H
    · subst e
      have hlen : (ll ++ x :: rl).length = ll.length + rl.length + 1 := by rw [List.length_append, List.length_cons]; omega
      rw [hlen] at hN ht
      have hFl := hP.2.2
      simp only [List.length_append, List.length_cons] at hFl
      have ek : k + (4 * (ll ++ x :: rl).length + 1) = (((k + 1) + (4 * rl.length + 1) + 1) + (4 * ll.length + 1)) + 1 := by rw [hlen]; omega
      rw [ek]
      obtain ⟨s1, s2, s3, s4, s5⟩ := jt_mid sa
      have nd := jt_P_nd hP
      have dj : ∀ n, n ∈ ll ++ x :: rl → n ∉ lb := fun n hn g => (List.nodup_append.mp (List.nodup_append.mp nd).1).2.2 n hn n g rfl
      have hy : 0 < y := by
        rcases Nat.eq_zero_or_pos y with g | g
        · subst g
          have g := jt_R_0 tb
          subst g
          obtain ⟨m, hm, _⟩ := sub x (by simp)
          cases hm
        · exact g
      refine jt_cSplit (by omega) h0 h1 hy h3 tb sb z hf (by omega) ?_
      intro lo' hi' e bl be bh b1 b2 b4 b6 b7 b8 b12 sp hf' e12 f12
      obtain ⟨q0, q1, q2, q3, q4, r1, r2, ff⟩ := sp
      have hxl : x ∉ lb := dj x (by simp)
      obtain ⟨x1, x2, x4⟩ := ff x hxl
      have hbe : 0 < e ∧ be = [e] := by
        rcases q4 with ⟨_, g⟩ | ⟨g, _, g'⟩
        · subst g
          obtain ⟨m, hm, em⟩ := sub x (by simp)
          rw [q0] at hm
          simp only [List.append_nil, List.mem_append] at hm
          rcases hm with hm | hm
          · exact absurd (em ▸ q1 m hm) Int32.lt_irrefl
          · exact absurd (em ▸ q3 m hm) Int32.lt_irrefl
        · exact ⟨g, g'⟩
      have e12' : b12 t = 1 := e12.trans (if_neg (by omega))
      have lb1 : lb.length = bl.length + be.length + bh.length := by rw [q0, List.length_append, List.length_append]
      have z' : b4 0 = nI 0 := (ff 0 (jt_R_n0 tb)).2.2.trans z
      obtain ⟨sbl, sbh, _⟩ := jt_So_app.mp (q0 ▸ sb)
      obtain ⟨sbl, _, _⟩ := jt_So_app.mp sbl
      rw [x1, e1]
      have hPm : jt_P (be ++ F) (ll ++ bl ++ (x :: rl ++ bh ++ V)) := jt_P_perm hP (jt_pm fun a => by
        rw [q0]
        simp only [List.count_append, List.count_cons]
        omega)
      refine ih (k := (k + 1) + (4 * rl.length + 1) + 1) (V := x :: rl ++ bh ++ V) (by omega) (by omega) (by omega) (jt_R_ext t1 (fun n hn => ff n (dj n (by simp [hn])))) r1 s1 sbl ?_ hf' hPm z' ?_
      · intro n hn
        obtain ⟨m, hm, em⟩ := sub n (by simp [hn])
        refine ⟨m, ?_, em⟩
        have hlt : a3 m < a3 x := em ▸ s3 n hn
        rw [q0] at hm
        simp only [List.mem_append] at hm
        rcases hm with (hm | hm) | hm
        · exact hm
        · exact absurd (q2 m hm ▸ hlt) Int32.lt_irrefl
        · exact absurd (Int32.lt_trans hlt (q3 m hm)) Int32.lt_irrefl
      intro F1 x' y' we1 lo1 hi1 ex1 c1 c2 c4 c6 c7 c8 c9 c10 c11 c12 c13 hf1 hP1 fc1 ft1
      obtain ⟨w9, w10, w11, w12, w13⟩ := ft1 t (by omega)
      rw [pk_us] at w9 w10 w13
      rw [e12'] at w12
      have nd1 := jt_P_nd hPm
      have djm : ∀ n, n ∈ x :: rl ++ bh → n ∉ ll ++ bl := fun n hn g => (List.nodup_append.mp nd1).2.2 n g n (List.mem_append_left _ hn) rfl
      have n2 : c2 x = nI rc := ((fc1 x (djm x (by simp))).2.1.trans x2).trans e2
      refine jt_cSec (p := x) (u := hi') (c := rc) (q := 0) (by omega) h1 (by omega) w13 w9 w10 n2 ?_
      have z1 : c4 0 = nI 0 := by
        refine (fc1 0 (fun g => ?_)).2.2.trans z'
        rcases List.mem_append.mp g with g | g
        · exact jt_R_n0 t1 g
        · exact jt_R_n0 r1 g
      have hPm1 : jt_P F1 (rl ++ bh ++ (x :: V)) := jt_P_perm hP1 (jt_pm fun a => by
        simp only [List.count_append, List.count_cons]
        omega)
      refine ih (k := k + 1) (V := x :: V) (by omega) (by omega) (by omega) (jt_R_ext t2 (fun n hn => ?_)) (jt_R_ext r2 (fun n hn => fc1 n (djm n (by simp [hn])))) s2 sbh ?_ hf1 hPm1 z1 ?_
      · obtain ⟨g1, g2, g4⟩ := fc1 n (djm n (by simp [hn]))
        obtain ⟨k1, k2, k4⟩ := ff n (dj n (by simp [hn]))
        exact ⟨g1.trans k1, g2.trans k2, g4.trans k4⟩
      · intro n hn
        obtain ⟨m, hm, em⟩ := sub n (by simp [hn])
        refine ⟨m, ?_, em⟩
        have hlt : a3 x < a3 m := em ▸ s4 n hn
        rw [q0] at hm
        simp only [List.mem_append] at hm
        rcases hm with (hm | hm) | hm
        · exact absurd (Int32.lt_trans hlt (q1 m hm)) Int32.lt_irrefl
        · exact absurd (q2 m hm ▸ hlt) Int32.lt_irrefl
        · exact hm
      intro F2 x'' y'' we2 lo2 hi2 ex2 d1 d2 d4 d6 d7 d8 d9 d10 d11 d12 d13 hf2 hP2 fc2 ft2
      obtain ⟨v9, v10, v11, v12, v13⟩ := ft2 t (by omega)
      rw [pk_us] at v11 v13
      have hF2 := hP2.2.2
      simp only [List.length_cons] at hF2
      refine jt_cFl (p := x) (by omega) h0 h1 (by omega) v13 (v9.trans w9) v11 (v12.trans w12) ?_
      refine H (x :: F2) _ _ _ _ _ _ _ _ _ _ _ _ _ _ _ _ _ (jt_FS_push hf2) (jt_P_old hP2) (fun n hn => ?_) (fun j hj => ?_)
      · have m1 : n ∉ rl ++ bh := fun g => hn (by
          rcases List.mem_append.mp g with g | g
          · simp [g]
          · rw [q0]; simp [g])
        have m2 : n ∉ ll ++ bl := fun g => hn (by
          rcases List.mem_append.mp g with g | g
          · simp [g]
          · rw [q0]; simp [g])
        have m3 : n ∉ lb := fun g => hn (List.mem_append_right _ g)
        obtain ⟨g1, g2, g4⟩ := fc2 n m1
        obtain ⟨k1, k2, k4⟩ := fc1 n m2
        obtain ⟨j1, j2, j4⟩ := ff n m3
        exact ⟨(g1.trans k1).trans j1, (g2.trans k2).trans j2, (g4.trans k4).trans j4⟩
      · obtain ⟨g9, g10, g11, g12, g13⟩ := ft2 j (by omega)
        obtain ⟨k9, k10, k11, k12, k13⟩ := ft1 j (by omega)
        refine ⟨(g9.trans k9).trans (pk_un (by omega)), (g10.trans k10).trans (pk_un (by omega)), (g11.trans (pk_un (by omega))).trans k11, (g12.trans k12).trans (f12 j hj), (g13.trans (pk_un (by omega))).trans (k13.trans (pk_un (by omega)))⟩
section
variable {fc we lo hi ex : Int32} {a1 a2 a3 a4 a5 a6 a7 a8 a9 a10 a11 a12 a13 : Nat → Int32}
theorem jt_less {post : Int32 → St2 → Prop} {x y : Nat} {la lb F V : List Nat} (h2 : la.length ≤ 3) (h3 : lb.length ≤ 3) (ta : jt_R a1 a2 a4 x la) (tb : jt_R a1 a2 a4 y lb) (sa : jt_So a3 la) (sb : jt_So a3 lb) (sub : ∀ n, n ∈ la → ∃ m, m ∈ lb ∧ a3 m = a3 n) (hf : jt_FS a6 F) (hP : jt_P F (la ++ lb ++ V)) (z : a4 0 = nI 0)
    (H : ∀ (F' : List Nat) (we' lo' hi' ex' : Int32) (b1 b2 b4 b6 b7 b8 b9 b10 b11 b12 b13 : Nat → Int32), jt_FS b6 F' → jt_P F' V → post (nI 0) (nI F'.length, we', lo', hi', ex', b1, b2, a3, b4, a5, b6, b7, b8, b9, b10, b11, b12, b13)) :
    wpX_combined post (nI F.length, we, lo, hi, ex, a1, a2, a3, a4, a5, a6, a7, a8, a9, a10, a11, a12, a13) 2 (nI x) (nI y) :=
  Exists.intro (1 + (4 * la.length + 1)) (jt_lessL la.length (t := 0) (k := 0 + 1) (Nat.le_refl _) h3 (by omega) ta tb sa sb sub hf hP z (fun F' x' y' we' lo' hi' ex' b1 b2 b4 b6 b7 b8 b9 b10 b11 b12 b13 hf' hP' _ _ => jt_cEnd (H F' we' lo' hi' ex' b1 b2 b4 b6 b7 b8 b9 b10 b11 b12 b13 hf' hP')))
end
end
section
/-! the picture between two calls: set 1 holds the nodes l1, set 2 the nodes l2 -/
def jt_I (fc : Int32) (a1 a2 a3 a4 a5 a6 : Nat → Int32) (F l1 l2 : List Nat) : Prop :=
  fc = nI F.length ∧ jt_FS a6 F ∧ jt_P F (l1 ++ l2) ∧ a4 0 = nI 0 ∧ (∃ r, a5 1 = nI r ∧ jt_R a1 a2 a4 r l1) ∧ (∃ r, a5 2 = nI r ∧ jt_R a1 a2 a4 r l2) ∧ jt_So a3 l1 ∧ jt_So a3 l2
/-! the constructor -/
theorem jt_initL {post : St2 → Prop} {mc ms kc ks : Nat} {we lo hi ex : Int32} {a1 a2 a3 a4 a5 a7 a8 a9 a10 a11 a12 a13 : Nat → Int32}
    (H : ∀ b6, jt_FS b6 (List.range' 1 255) → post (nI 255, we, lo, hi, ex, a1, a2, a3, a4, a5, b6, a7, a8, a9, a10, a11, a12, a13)) (i : Nat) : ∀ {a6 : Nat → Int32} {k : Nat}, i < 256 → i < k → jt_FS a6 (List.range' (i + 1) (255 - i)) → wX_init_116 post mc ms kc ks we lo hi ex k (nI i) (nI (255 - i)) a1 a2 a3 a4 a5 a6 a7 a8 a9 a10 a11 a12 a13 := by
  induction i with
  | zero =>
    intro a6 k _ hk hf
    obtain ⟨k, rfl⟩ : ∃ j, k = j + 1 := ⟨k - 1, by omega⟩
    exact br_t (by decide) (H a6 hf)
  | succ i ih =>
    intro a6 k hi hk hf
    obtain ⟨k, rfl⟩ : ∃ j, k = j + 1 := ⟨k - 1, by omega⟩
    have hl : (List.range' (i + 1 + 1) (255 - (i + 1))).length = 255 - (i + 1) := List.length_range'
    have hf' := jt_FS_push (n := i + 1) hf
    rw [hl, ← List.range'_succ, show 255 - (i + 1) + 1 = 255 - i by omega] at hf'
    refine br_f (nI_nle (by omega) (by omega)) (And.intro (vp_in_nI (by omega) (by omega)) ?_)
    rw [jt_cl (by omega), jt_s16 _ (by omega)]
    refine nm_e (nm_r ?_ (nm_r (pk_m1 i) (ih (by omega) (by omega) hf')))
    rw [nI_1, show 255 - (i + 1) + 1 = 255 - i by omega]
theorem jt_P0 : jt_P (List.range' 1 255) ([] ++ []) := by
  refine ⟨by simp [List.nodup_range'], fun n hn => ?_, by simp⟩
  rw [List.append_nil, List.append_nil, List.mem_range'_1] at hn
  omega
theorem jt_init {post : St2 → Prop} {mc ms : Nat} (hc : 13 ≤ mc) (hs : 1572 ≤ ms)
    (H : ∀ (fc we lo hi ex : Int32) (a1 a2 a3 a4 a5 a6 a7 a8 a9 a10 a11 a12 a13 : Nat → Int32) (F : List Nat), jt_I fc a1 a2 a3 a4 a5 a6 F [] [] → post (fc, we, lo, hi, ex, a1, a2, a3, a4, a5, a6, a7, a8, a9, a10, a11, a12, a13)) : wpX_init post mc ms (0, 0, 0, 0, 0) := by
  unfold wpX_init
  refine ⟨by omega, by omega, by omega, by omega, by omega, by omega, by omega, by omega, by omega, by omega, by omega, by omega, by omega, by omega, by omega, by omega, by omega, by omega, by omega, by omega, by omega, by omega, by omega, by omega, by omega, by omega, ?_⟩
  refine ⟨256, ?_⟩
  refine jt_initL ?_ 255 (k := 256) (by omega) (by omega) trivial
  intro b6 hf
  exact H _ _ _ _ _ _ _ _ _ _ _ _ _ _ _ _ _ _ (List.range' 1 255) ⟨by rw [List.length_range'], hf, jt_P0, rfl, ⟨0, rfl, jt_R_nil⟩, ⟨0, rfl, jt_R_nil⟩, jt_So_nil, jt_So_nil⟩
section
variable {fc we lo hi ex : Int32} {a1 a2 a3 a4 a5 a6 a7 a8 a9 a10 a11 a12 a13 : Nat → Int32}
/-! add -/
theorem jt_add {post : Int32 → St2 → Prop} {x : Int32} {F l1 : List Nat} (I : jt_I fc a1 a2 a3 a4 a5 a6 F l1 []) (h2 : l1.length ≤ 2)
    (H0 : (∃ n, n ∈ l1 ∧ a3 n = x) → post 0 (fc, we, lo, hi, ex, a1, a2, a3, a4, a5, a6, a7, a8, a9, a10, a11, a12, a13))
    (H1 : (∀ n, n ∈ l1 → ¬ a3 n = x) → ∀ (fc we lo hi ex : Int32) (b1 b2 b3 b4 b5 b6 b7 b8 b9 b10 b11 b12 b13 : Nat → Int32) (G ll hl : List Nat) (c : Nat), l1 = ll ++ hl → (∀ n, n ∈ ll → a3 n < x) → (∀ n, n ∈ hl → x < a3 n) → b3 c = x → (∀ n, n ∈ l1 → b3 n = a3 n) → jt_I fc b1 b2 b3 b4 b5 b6 G (ll ++ c :: hl) [] → post 1 (fc, we, lo, hi, ex, b1, b2, b3, b4, b5, b6, b7, b8, b9, b10, b11, b12, b13)) :
    wpX_add post (fc, we, lo, hi, ex, a1, a2, a3, a4, a5, a6, a7, a8, a9, a10, a11, a12, a13) (nI 1) x := by
  obtain ⟨rfl, hf, hP, z, ⟨r, e5, t⟩, ⟨r', e5', t'⟩, so, _⟩ := I
  have er' := jt_R_e t'
  subst er'
  unfold wpX_add
  refine jt_isSet (by omega) (br_f (by decide) (jt_has (by omega) e5 t so (fun h => br_f (by decide) (H0 h)) (fun h => br_t rfl (And.intro (vp_in_nI (by omega) (by omega)) ?_))))
  rw [jt_cl (show 1 < 256 by omega), e5, jt_cl (jt_R_lt t), jt_R_cnt z t]
  refine And.intro (jt_in (jt_R_lt t)) (br_t (nI_lt (b := 20) (by omega) (by omega)) (And.intro (vp_in_nI (by omega) (by omega)) ?_))
  refine jt_splitTree (by omega) t so z ?_
  intro lo' hi' e ll el hl b1 b2 b4 b7 b8 sp te
  obtain ⟨q0, q1, q2, q3, q4, r1, r2, ff⟩ := sp
  have hel : el = [] := by
    cases el with
    | nil => rfl
    | cons n el' => exact absurd (q2 n (by simp)) (h n (by rw [q0]; simp))
  subst hel
  have hl0 : l1.length = ll.length + hl.length := by rw [q0, List.append_nil, List.length_append]
  obtain ⟨c, F1, rfl, c0, c1, cF, cV⟩ := jt_P_more hP (by rw [List.append_nil]; omega)
  have hP1 := jt_P_new hP
  have hF1 : F1.length < 256 := by have := hP.2.2; rw [List.length_cons] at this; omega
  rw [List.append_nil] at cV
  have nl : ∀ n, n ∈ ll → n ≠ c := fun n hn g => cV (by rw [q0, ← g]; simp [hn])
  have nh : ∀ n, n ∈ hl → n ≠ c := fun n hn g => cV (by rw [q0, ← g]; simp [hn])
  have z' : b4 0 = nI 0 := (ff 0 (jt_R_n0 t)).2.2.trans z
  have nlo : lo' ≠ c := fun g => nl lo' (jt_R_mem r1 (by omega)) g
  have nhi : hi' ≠ c := fun g => nh hi' (jt_R_mem r2 (by omega)) g
  refine jt_newNode hf c1 hF1 ?_
  refine jt_join_2 (ca := ll.length) (cb := hl.length) (jt_R_lt r1) c1 (jt_R_lt r2) (by omega) (by omega) ((pk_un nlo).trans (jt_R_cnt z' r1)) ((pk_un nhi).trans (jt_R_cnt z' r2)) nlo nhi ?_
  refine And.intro (vp_in_nI (by omega) (by omega)) ?_
  rw [jt_s16 _ c1]
  have k3 : ∀ n, n ∈ l1 → upd a3 c x n = a3 n := fun n hn => pk_un (fun g => cV (g ▸ hn))
  refine nm_e (H1 h _ _ _ _ _ _ _ _ _ _ _ _ _ _ _ _ _ _ F1 ll hl c (by rw [q0, List.append_nil]) q1 q3 pk_us k3 ⟨rfl, hf.2, ?_, ?_, ⟨c, pk_us, ?_⟩, ⟨0, (pk_un (by omega)).trans e5', jt_R_nil⟩, ?_, jt_So_nil⟩)
  · exact jt_P_perm hP1 (jt_pm fun a => by
      rw [q0]
      simp only [List.count_append, List.count_cons, List.count_nil]
      omega)
  · exact (pk_un (by omega)).trans ((pk_un (by omega)).trans z')
  · refine jt_R_node c0 c1 pk_us pk_us (jt_R_ext r1 (fun n hn => ?_)) (jt_R_ext r2 (fun n hn => ?_)) pk_us
    · have g := nl n hn
      exact ⟨(pk_un g).trans (pk_un g), (pk_un g).trans (pk_un g), (pk_un g).trans (pk_un g)⟩
    · have g := nh n hn
      exact ⟨(pk_un g).trans (pk_un g), (pk_un g).trans (pk_un g), (pk_un g).trans (pk_un g)⟩
  · have so' : jt_So (upd a3 c x) (ll ++ hl) := by
      have := jt_So_ext so k3
      rw [q0, List.append_nil] at this
      exact this
    obtain ⟨s1, s2, s3⟩ := jt_So_app.mp so'
    refine jt_So_app.mpr ⟨s1, jt_So_cons.mpr ⟨fun n hn => ?_, s2⟩, fun n hn m hm => ?_⟩
    · rw [pk_us, pk_un (nh n hn)]
      exact q3 n hn
    · rcases List.mem_cons.mp hm with g | g
      · rw [g, pk_us, pk_un (nl n hn)]
        exact q1 n hn
      · exact s3 n hn m g
/-! split -/
theorem jt_split61 {post : Int32 → St2 → Prop} {F ll h : List Nat} {lo' up : Nat} (hf : jt_FS a6 F) (hP : jt_P F (ll ++ h)) (z : a4 0 = nI 0) (tl : jt_R a1 a2 a4 lo' ll) (th : jt_R a1 a2 a4 up h) (e5 : a5 2 = nI 0) (sl : jt_So a3 ll) (sh : jt_So a3 h)
    (H : ∀ (fc we : Int32) (b5 b6 b7 b8 : Nat → Int32) (G : List Nat), jt_I fc a1 a2 a3 a4 b5 b6 G ll h → post (nI h.length) (fc, we, lo, hi, ex, a1, a2, a3, a4, b5, b6, b7, b8, a9, a10, a11, a12, a13)) :
    wX_split_61 post (nI 1) (nI 2) (nI lo') (nI up) (nI F.length) we lo hi ex a1 a2 a3 a4 a5 a6 a7 a8 a9 a10 a11 a12 a13 := by
  unfold wX_split_61
  refine And.intro (vp_in_nI (by omega) (by omega)) ?_
  rw [jt_cl (show 1 < 256 by omega), jt_s16 _ (jt_R_lt tl)]
  refine nm_e (And.intro (vp_in_nI (by omega) (by omega)) ?_)
  rw [jt_cl (show 2 < 256 by omega), pk_un (by omega), e5]
  have hl := hP.2.2
  refine jt_releaseTree (l := []) jt_R_nil (by simp) hf (by simp; omega) ?_
  intro F' b6 b7 b8 p hf'
  refine And.intro (vp_in_nI (by omega) (by omega)) ?_
  rw [jt_s16 _ (jt_R_lt th)]
  refine nm_e (And.intro (jt_in (jt_R_lt th)) ?_)
  rw [jt_cl (jt_R_lt th), jt_R_cnt z th]
  exact H _ _ _ _ _ _ F' ⟨rfl, hf', jt_P_perm hP (p.symm.append_right _), z, ⟨lo', (pk_un (by omega)).trans pk_us, tl⟩, ⟨up, pk_us, th⟩, sl, sh⟩
theorem jt_split {post : Int32 → St2 → Prop} {x : Int32} {F l1 : List Nat} (I : jt_I fc a1 a2 a3 a4 a5 a6 F l1 []) (h2 : l1.length ≤ 2)
    (H : ∀ (fc we lo hi ex : Int32) (b1 b2 b4 b5 b6 b7 b8 : Nat → Int32) (G ll h : List Nat), l1 = ll ++ h → (∀ n, n ∈ ll → a3 n < x) → (∀ n, n ∈ h → ¬ a3 n < x) → jt_I fc b1 b2 a3 b4 b5 b6 G ll h → post (nI h.length) (fc, we, lo, hi, ex, b1, b2, a3, b4, b5, b6, b7, b8, a9, a10, a11, a12, a13)) :
    wpX_split post (fc, we, lo, hi, ex, a1, a2, a3, a4, a5, a6, a7, a8, a9, a10, a11, a12, a13) (nI 1) x (nI 2) := by
  obtain ⟨rfl, hf, hP, z, ⟨r, e5, t⟩, ⟨r', e5', t'⟩, so, _⟩ := I
  have er' := jt_R_e t'
  subst er'
  unfold wpX_split
  refine jt_isSet (by omega) (br_f (by decide) (jt_isSet (by omega) (br_f (by decide) (And.intro (vp_in_nI (by omega) (by omega)) ?_))))
  rw [jt_cl (show 1 < 256 by omega), e5]
  refine jt_splitTree (by omega) t so z ?_
  intro lo' hi' e ll el hl b1 b2 b4 b7 b8 sp te
  obtain ⟨q0, q1, q2, q3, q4, r1, r2, ff⟩ := sp
  have z' : b4 0 = nI 0 := (ff 0 (jt_R_n0 t)).2.2.trans z
  rw [List.append_nil] at hP
  have so' := so
  rw [q0] at so'
  obtain ⟨s12, s3, s4⟩ := jt_So_app.mp so'
  obtain ⟨s1, s2, s5⟩ := jt_So_app.mp s12
  rcases q4 with ⟨rfl, rfl⟩ | ⟨h0, h1, rfl⟩
  · have e1 : l1 = ll ++ hl := by rw [q0, List.append_nil]
    exact br_t rfl (jt_split61 hf (e1 ▸ hP) z' r1 r2 e5' s1 s3 (fun fc we b5 b6 b7 b8 G I' => H _ _ _ _ _ _ _ _ _ _ _ _ G ll hl e1 q1 (fun n hn g => Int32.lt_irrefl (Int32.lt_trans g (q3 n hn))) I'))
  · have e1 : l1 = ll ++ e :: hl := by rw [q0, List.append_assoc]; rfl
    have hl0 : l1.length = ll.length + hl.length + 1 := by rw [e1, List.length_append, List.length_cons]; omega
    obtain ⟨m1, m2, m3, m4, m5⟩ := jt_mid (e1 ▸ so)
    have nh : hi' ≠ e := fun g => by
      have hm := jt_R_mem r2 (by omega)
      rw [g] at hm
      exact Int32.lt_irrefl (m4 e hm)
    have nl : ∀ n, n ∈ ll → n ≠ e := fun n hn => jt_ltne (m3 n hn)
    have nr : ∀ n, n ∈ hl → n ≠ e := fun n hn => (jt_ltne (m4 n hn)).symm
    refine br_f (jt_nz h0 h1) (jt_join (a := 0) (ca := 0) (cb := hl.length) (by omega) h1 (jt_R_lt r2) (by omega) (by omega) z' (jt_R_cnt z' r2) (by omega) nh ?_)
    refine jt_split61 (h := e :: hl) hf (e1 ▸ hP) ((pk_un (by omega)).trans z') (jt_R_ext r1 (fun n hn => ⟨pk_un (nl n hn), pk_un (nl n hn), pk_un (nl n hn)⟩)) (jt_R_node (ll := []) (rl := hl) h0 h1 pk_us pk_us jt_R_nil (jt_R_ext r2 (fun n hn => ⟨pk_un (nr n hn), pk_un (nr n hn), pk_un (nr n hn)⟩)) pk_us) e5' m1 (jt_So_cons.mpr ⟨m4, m2⟩) ?_
    intro fc we b5 b6 b7 b8 G I'
    refine H _ _ _ _ _ _ _ _ _ _ _ _ G ll (e :: hl) e1 q1 (fun n hn g => ?_) I'
    rcases List.mem_cons.mp hn with k | k
    · rw [k, q2 e (by simp)] at g
      exact Int32.lt_irrefl g
    · exact Int32.lt_irrefl (Int32.lt_trans g (q3 n k))
end
end
section
section
variable {fc we lo hi ex : Int32} {a1 a2 a3 a4 a5 a6 a7 a8 a9 a10 a11 a12 a13 : Nat → Int32}
theorem jt_removeRange {post : Int32 → St2 → Prop} {x y : Int32} {F l1 l2 : List Nat} (I : jt_I fc a1 a2 a3 a4 a5 a6 F l1 l2) (h2 : l2.length ≤ 2)
    (H0 : ¬ x ≤ y → post 0 (fc, we, lo, hi, ex, a1, a2, a3, a4, a5, a6, a7, a8, a9, a10, a11, a12, a13))
    (H1 : x ≤ y → ∀ (fc we lo hi ex : Int32) (b1 b2 b4 b5 b6 b7 b8 : Nat → Int32) (G A C D : List Nat), l2 = A ++ C ++ D → (∀ n, n ∈ A → a3 n < x) → (∀ n, n ∈ C → ¬ a3 n < x ∧ ¬ y < a3 n) → (∀ n, n ∈ D → y < a3 n) → jt_I fc b1 b2 a3 b4 b5 b6 G l1 (A ++ D) → post (nI C.length) (fc, we, lo, hi, ex, b1, b2, a3, b4, b5, b6, b7, b8, a9, a10, a11, a12, a13)) :
    wpX_removeRange post (fc, we, lo, hi, ex, a1, a2, a3, a4, a5, a6, a7, a8, a9, a10, a11, a12, a13) (nI 2) x y := by
  obtain ⟨rfl, hf, hP, z, ⟨r', e5', t'⟩, ⟨r, e5, t⟩, so', so⟩ := I
  unfold wpX_removeRange
  refine jt_isSet (by omega) (br_f (by decide) (br_c (fun hxy => And.intro (vp_in_nI (by omega) (by omega)) ?_) H0))
  rw [jt_cl (show 2 < 256 by omega), e5, jt_cl (jt_R_lt t), jt_R_cnt z t]
  refine And.intro (jt_in (jt_R_lt t)) (nm_e (And.intro (vp_in_nI (by omega) (by omega)) ?_))
  have dj12 : ∀ n, n ∈ l1 → n ∉ l2 := fun n hn g => (List.nodup_append.mp (jt_P_nd hP)).2.2 n hn n g rfl
  have hlen := hP.2.2
  rw [List.length_append] at hlen
  -- the first cut
  refine jt_splitTree (by omega) t so z ?_
  intro lo1 hi1 e1 A E1 B b1 b2 b4 b7 b8 sp te
  obtain ⟨q0, q1, q2, q3, q4, r1, r2, ff⟩ := sp
  have z1 : b4 0 = nI 0 := (ff 0 (jt_R_n0 t)).2.2.trans z
  have hl2 : l2.length = A.length + E1.length + B.length := by rw [q0, List.length_append, List.length_append]
  obtain ⟨sAE, sB, sAB⟩ := jt_So_app.mp (q0 ▸ so)
  obtain ⟨sA, sE, sAE'⟩ := jt_So_app.mp sAE
  refine jt_relx q4 hf (by omega) ?_
  intro b6 hf1
  -- the second cut
  refine jt_splitTree (by omega) r2 sB z1 ?_
  intro lo2 hi2 e2 C E2 D c1 c2 c4 c7 c8 sp2 te2
  obtain ⟨p0, p1, p2, p3, p4, u1, u2, gg⟩ := sp2
  have hB : B.length = C.length + E2.length + D.length := by rw [p0, List.length_append, List.length_append]
  have z2 : c4 0 = nI 0 := (gg 0 (jt_R_n0 r2)).2.2.trans z1
  refine jt_relx p4 hf1 (by rw [List.length_append]; omega) ?_
  intro c6 hf2
  refine jt_releaseTree u1 (by omega) hf2 (by simp only [List.length_append]; omega) ?_
  intro F3 d6 d7 d8 pm hf3
  have djA : ∀ n, n ∈ A → n ∉ B := fun n hn g => Int32.lt_irrefl (sAB n (List.mem_append_left _ hn) n g)
  have rA : jt_R c1 c2 c4 lo1 A := jt_R_ext r1 (fun n hn => gg n (djA n hn))
  have djAD : ∀ n, n ∈ A → n ∉ D := fun n hn g => djA n hn (by rw [p0]; simp [g])
  refine jt_joinTwo (by omega) (by omega) rA u2 sA djAD z2 ?_
  intro rr we' lo' hi' ex' f1 f2 f4 f7 f8 rAD hh
  refine And.intro (vp_in_nI (by omega) (by omega)) ?_
  rw [jt_s16 _ (jt_R_lt rAD)]
  refine nm_e (And.intro (vp_in_nI (by omega) (by omega)) ?_)
  rw [pk_us, jt_cl (jt_R_lt rAD)]
  have e0 : l2 = A ++ (E1 ++ C ++ E2) ++ D := by rw [q0, p0]; simp only [List.append_assoc]
  have nAD : ∀ n, n ∈ A ++ D → n ∈ l2 := fun n hn => by
    rw [e0]
    rcases List.mem_append.mp hn with g | g
    · simp [g]
    · simp [g]
  have nB : ∀ n, n ∈ B → n ∈ l2 := fun n hn => by rw [q0]; simp [hn]
  have fr : ∀ n, n ∉ l2 → f1 n = a1 n ∧ f2 n = a2 n ∧ f4 n = a4 n := fun n hn => by
    obtain ⟨k1, k2, k4⟩ := hh n (fun g => hn (nAD n g))
    obtain ⟨m1, m2, m4⟩ := gg n (fun g => hn (nB n g))
    obtain ⟨j1, j2, j4⟩ := ff n hn
    exact ⟨(k1.trans m1).trans j1, (k2.trans m2).trans j2, (k4.trans m4).trans j4⟩
  have zf : f4 0 = nI 0 := (fr 0 (jt_R_n0 t)).2.2.trans z
  rw [jt_R_cnt zf rAD, pk_sub (by rw [List.length_append]; omega), show l2.length - (A ++ D).length = (E1 ++ C ++ E2).length by simp only [List.length_append]; omega]
  obtain ⟨sCE, sD, _⟩ := jt_So_app.mp (p0 ▸ sB)
  refine And.intro (jt_in (jt_R_lt rAD)) (H1 hxy _ _ _ _ _ _ _ _ _ _ _ _ F3 A (E1 ++ C ++ E2) D e0 q1 ?_ p3 ⟨rfl, hf3, ?_, zf, ⟨r', (pk_un (by omega)).trans e5', jt_R_ext t' (fun n hn => fr n (dj12 n hn))⟩, ⟨rr, pk_us, rAD⟩, so', ?_⟩)
  · intro n hn
    simp only [List.mem_append] at hn
    rcases hn with (g | g) | g
    · rw [q2 n g]
      exact ⟨Int32.lt_irrefl, Int32.not_lt.mpr hxy⟩
    · have k1 := q3 n (by rw [p0]; simp [g])
      have k2 := p1 n g
      exact ⟨fun k => Int32.lt_irrefl (Int32.lt_trans k k1), fun k => Int32.lt_irrefl (Int32.lt_trans k k2)⟩
    · have k1 := q3 n (by rw [p0]; simp [g])
      rw [p2 n g]
      exact ⟨Int32.not_lt.mpr hxy, Int32.lt_irrefl⟩
  · refine jt_P_perm hP (jt_pm fun a => ?_)
    have k := pm.count_eq a
    rw [e0]
    simp only [List.count_append] at k ⊢
    omega
  · exact jt_So_app.mpr ⟨sA, sD, fun n hn m hm => sAB n (List.mem_append_left _ hn) m (by rw [p0]; simp [hm])⟩
end
theorem jt_So_map {a3 b3 : Nat → Int32} {l m : List Nat} (e : m.map b3 = l.map a3) (h : jt_So a3 l) : jt_So b3 m := by
  have h' : (l.map a3).Pairwise (· < ·) := List.pairwise_map.mpr h
  rw [← e] at h'
  exact List.pairwise_map.mp h'
theorem jt_key {a3 b3 : Nat → Int32} {l m : List Nat} (e : m.map b3 = l.map a3) {n : Nat} (hn : n ∈ m) : ∃ k, k ∈ l ∧ a3 k = b3 n := by
  have h : b3 n ∈ l.map a3 := by rw [← e]; exact List.mem_map_of_mem hn
  exact List.mem_map.mp h
/-- set 2 and then set 1 copied: what holds then -/
theorem jt_two {a1 a2 a3 a4 b1 b2 b3 b4 c1 c2 c3 c4 : Nat → Int32} {F F1 F2 l1 l2 la lb : List Nat} {r1 r2 ra : Nat} (hP : jt_P F (l1 ++ l2)) (z : a4 0 = nI 0) (t1 : jt_R a1 a2 a4 r1 l1) (t2 : jt_R a1 a2 a4 r2 l2)
    (ta : jt_R b1 b2 b4 ra la) (ma : la.map b3 = l2.map a3) (hP1 : jt_P F1 (la ++ (l1 ++ l2))) (f1 : ∀ n, n ∉ F → b1 n = a1 n ∧ b2 n = a2 n ∧ b3 n = a3 n ∧ b4 n = a4 n)
    (mb : lb.map c3 = l1.map b3) (hP2 : jt_P F2 (lb ++ (la ++ (l1 ++ l2)))) (f2 : ∀ n, n ∉ F1 → c1 n = b1 n ∧ c2 n = b2 n ∧ c3 n = b3 n ∧ c4 n = b4 n) :
    jt_R c1 c2 c4 ra la ∧ jt_R c1 c2 c4 r1 l1 ∧ jt_R c1 c2 c4 r2 l2 ∧ c4 0 = nI 0 ∧ la.map c3 = l2.map a3 ∧ lb.map c3 = l1.map a3 ∧ (∀ n, n ∈ l1 ++ l2 → c3 n = a3 n) ∧ jt_P F2 (la ++ lb ++ (l1 ++ l2)) := by
  have d0 : ∀ n, n ∈ l1 ++ l2 → n ∉ F := fun n hn g => (List.nodup_append.mp hP.1).2.2 n g n hn rfl
  have d1 : ∀ n, n ∈ la ++ (l1 ++ l2) → n ∉ F1 := fun n hn g => (List.nodup_append.mp hP1.1).2.2 n g n hn rfl
  have k : ∀ n, n ∈ l1 ++ l2 → c1 n = a1 n ∧ c2 n = a2 n ∧ c3 n = a3 n ∧ c4 n = a4 n := fun n hn => by
    obtain ⟨x1, x2, x3, x4⟩ := f1 n (d0 n hn)
    obtain ⟨y1, y2, y3, y4⟩ := f2 n (d1 n (List.mem_append_right _ hn))
    exact ⟨y1.trans x1, y2.trans x2, y3.trans x3, y4.trans x4⟩
  have z0 : (0 : Nat) ∉ F := fun g => absurd (hP.2.1 0 (List.mem_append_left _ g)).1 (by omega)
  have z1 : (0 : Nat) ∉ F1 := fun g => absurd (hP1.2.1 0 (List.mem_append_left _ g)).1 (by omega)
  refine ⟨jt_R_ext ta (fun n hn => ?_), jt_R_ext t1 (fun n hn => ?_), jt_R_ext t2 (fun n hn => ?_), ((f2 0 z1).2.2.2.trans (f1 0 z0).2.2.2).trans z, ?_, ?_, fun n hn => (k n hn).2.2.1, ?_⟩
  · obtain ⟨y1, y2, y3, y4⟩ := f2 n (d1 n (List.mem_append_left _ hn))
    exact ⟨y1, y2, y4⟩
  · obtain ⟨y1, y2, y3, y4⟩ := k n (List.mem_append_left _ hn)
    exact ⟨y1, y2, y4⟩
  · obtain ⟨y1, y2, y3, y4⟩ := k n (List.mem_append_right _ hn)
    exact ⟨y1, y2, y4⟩
  · rw [← ma]
    exact List.map_congr_left (fun n hn => (f2 n (d1 n (List.mem_append_left _ hn))).2.2.1)
  · rw [mb]
    exact List.map_congr_left (fun n hn => (f1 n (d0 n (List.mem_append_left _ hn))).2.2.1)
  · exact jt_P_perm hP2 (jt_pm fun a => by simp only [List.count_append]; omega)
section
variable {fc we lo hi ex : Int32} {a1 a2 a3 a4 a5 a6 a7 a8 a9 a10 a11 a12 a13 : Nat → Int32}
theorem jt_combine {post : Int32 → St2 → Prop} {F l1 l2 : List Nat} (I : jt_I fc a1 a2 a3 a4 a5 a6 F l1 l2) (h2 : l1.length + l2.length ≤ 2) (lt : ∀ n, n ∈ l1 → ∀ m, m ∈ l2 → a3 n < a3 m)
    (H : ∀ (fc we lo hi ex : Int32) (b1 b2 b3 b4 b5 b6 b7 b8 b9 b10 b11 b12 b13 : Nat → Int32) (G m1 : List Nat), m1.map b3 = (l1 ++ l2).map a3 → (∀ n, n ∈ l2 → b3 n = a3 n) → jt_I fc b1 b2 b3 b4 b5 b6 G m1 l2 → post (nI (l1.length + l2.length)) (fc, we, lo, hi, ex, b1, b2, b3, b4, b5, b6, b7, b8, b9, b10, b11, b12, b13)) :
    wpX_combine post (fc, we, lo, hi, ex, a1, a2, a3, a4, a5, a6, a7, a8, a9, a10, a11, a12, a13) (nI 0) (nI 1) (nI 2) (nI 1) := by
  obtain ⟨rfl, hf, hP, z, ⟨r1, e5, t1⟩, ⟨r2, e5', t2⟩, s1, s2⟩ := I
  unfold wpX_combine
  refine br_f (by decide) (br_f (by decide) (jt_isSet (by omega) (br_f (by decide) (jt_isSet (by omega) (br_f (by decide) (jt_isSet (by omega) (br_f (by decide) (And.intro (vp_in_nI (by omega) (by omega)) ?_))))))))
  rw [jt_cl (show 2 < 256 by omega), e5']
  refine jt_copyOf (by omega) t2 hf hP (by rw [List.length_append]; omega) (fun n hn => List.mem_append_right _ hn) ?_
  intro ra la F1 we1 b1 b2 b3 b4 b7 b8 ta ma hf1 hP1 f1
  refine And.intro (vp_in_nI (by omega) (by omega)) ?_
  have la1 : la.length = l2.length := by have := congrArg List.length ma; simpa using this
  have d0 : ∀ n, n ∈ l1 ++ l2 → n ∉ F := fun n hn g => (List.nodup_append.mp hP.1).2.2 n g n hn rfl
  rw [jt_cl (show 1 < 256 by omega), e5]
  refine jt_copyOf (l := l1) (by omega) (jt_R_ext t1 (fun n hn => ?_)) hf1 hP1 (by simp only [List.length_append]; omega) (fun n hn => by simp [hn]) ?_
  · obtain ⟨x1, x2, x3, x4⟩ := f1 n (d0 n (List.mem_append_left _ hn))
    exact ⟨x1, x2, x4⟩
  intro rb lb F2 we2 c1 c2 c3 c4 c7 c8 tb mb hf2 hP2 f2
  obtain ⟨ta', t1', t2', z', ma', mb', k3, hP2'⟩ := jt_two hP z t1 t2 ta ma hP1 f1 mb hP2 f2
  have lb1 : lb.length = l1.length := by have := congrArg List.length mb; simpa using this
  have hlen := hP2'.2.2
  simp only [List.length_append] at hlen
  refine br_f (by decide) ?_
  have lt' : ∀ n, n ∈ lb → ∀ m, m ∈ la → c3 n < c3 m := fun n hn m hm => by
    obtain ⟨n', hn', e1⟩ := jt_key mb' hn
    obtain ⟨m', hm', e2⟩ := jt_key ma' hm
    rw [← e1, ← e2]
    exact lt n' hn' m' hm'
  refine jt_unite (by omega) ta' tb lt' z' hf2 (by omega) ?_
  intro r we3 lo3 hi3 ex3 d1 d2 d4 d6 d7 d8 d9 d10 d11 d12 d13 hf3 tr fr
  have nd := (List.nodup_append.mp (jt_P_nd hP2')).2.2
  have dm : ∀ n, n ∈ l1 ++ l2 → n ∉ la ++ lb := fun n hn g => nd n g n hn rfl
  have z3 : d4 0 = nI 0 := by
    refine (fr 0 (fun g => ?_)).2.2.trans z'
    rcases List.mem_append.mp g with g | g
    · exact jt_R_n0 ta g
    · exact jt_R_n0 tb g
  have hr : r < 256 := jt_R_lt tr
  unfold wX_combine_89
  refine And.intro (jt_in hr) ?_
  rw [jt_cl hr, jt_R_cnt z3 tr, List.length_append, lb1, la1]
  refine br_t (nI_le (b := 20) (by omega) (by omega)) (And.intro (vp_in_nI (by omega) (by omega)) ?_)
  rw [jt_cl (show 1 < 256 by omega), e5]
  refine jt_releaseTree (l := l1) (jt_R_ext t1' (fun n hn => fr n (dm n (List.mem_append_left _ hn)))) (by omega) hf3 (by omega) ?_
  intro F3 g6 g7 g8 pm hf4
  refine And.intro (vp_in_nI (by omega) (by omega)) ?_
  rw [jt_s16 _ hr]
  refine nm_e (And.intro (jt_in hr) ?_)
  rw [jt_R_cnt z3 tr, List.length_append, lb1, la1]
  refine H _ _ _ _ _ _ _ _ _ _ _ _ _ _ _ _ _ _ F3 (lb ++ la) (by rw [List.map_append, List.map_append, ma', mb']) (fun n hn => k3 n (List.mem_append_right _ hn)) ⟨rfl, hf4, ?_, z3, ⟨r, pk_us, tr⟩, ⟨r2, (pk_un (by omega)).trans e5', jt_R_ext t2' (fun n hn => fr n (dm n (List.mem_append_right _ hn)))⟩, ?_, ?_⟩
  · refine jt_P_perm hP2' (jt_pm fun a => ?_)
    have k := pm.count_eq a
    simp only [List.count_append] at k ⊢
    omega
  · exact jt_So_app.mpr ⟨jt_So_map mb' s1, jt_So_map ma' s2, lt'⟩
  · exact jt_So_ext s2 (fun n hn => k3 n (List.mem_append_right _ hn))
theorem jt_within {post : Int32 → St2 → Prop} {F l1 l2 : List Nat} (I : jt_I fc a1 a2 a3 a4 a5 a6 F l1 l2) (h1 : l1.length ≤ 2) (h2 : l2.length ≤ 2) (sub : ∀ n, n ∈ l2 → ∃ m, m ∈ l1 ∧ a3 m = a3 n)
    (H : ∀ u : St2, post 1 u) : wpX_within post (fc, we, lo, hi, ex, a1, a2, a3, a4, a5, a6, a7, a8, a9, a10, a11, a12, a13) (nI 2) (nI 1) := by
  obtain ⟨rfl, hf, hP, z, ⟨r1, e5, t1⟩, ⟨r2, e5', t2⟩, s1, s2⟩ := I
  unfold wpX_within
  refine jt_isSet (by omega) (br_f (by decide) (jt_isSet (by omega) (br_f (by decide) (And.intro (vp_in_nI (by omega) (by omega)) ?_))))
  rw [jt_cl (show 2 < 256 by omega), e5']
  refine jt_copyOf (by omega) t2 hf hP (by rw [List.length_append]; omega) (fun n hn => List.mem_append_right _ hn) ?_
  intro ra la F1 we1 b1 b2 b3 b4 b7 b8 ta ma hf1 hP1 f1
  refine And.intro (vp_in_nI (by omega) (by omega)) ?_
  have la1 : la.length = l2.length := by have := congrArg List.length ma; simpa using this
  have d0 : ∀ n, n ∈ l1 ++ l2 → n ∉ F := fun n hn g => (List.nodup_append.mp hP.1).2.2 n g n hn rfl
  rw [jt_cl (show 1 < 256 by omega), e5]
  refine jt_copyOf (l := l1) (by omega) (jt_R_ext t1 (fun n hn => ?_)) hf1 hP1 (by simp only [List.length_append]; omega) (fun n hn => by simp [hn]) ?_
  · obtain ⟨x1, x2, x3, x4⟩ := f1 n (d0 n (List.mem_append_left _ hn))
    exact ⟨x1, x2, x4⟩
  intro rb lb F2 we2 c1 c2 c3 c4 c7 c8 tb mb hf2 hP2 f2
  obtain ⟨ta', t1', t2', z', ma', mb', k3, hP2'⟩ := jt_two hP z t1 t2 ta ma hP1 f1 mb hP2 f2
  have lb1 : lb.length = l1.length := by have := congrArg List.length mb; simpa using this
  refine jt_less (by omega) (by omega) ta' tb (jt_So_map ma' s2) (jt_So_map mb' s1) ?_ hf2 hP2' z' ?_
  · intro n hn
    obtain ⟨n', hn', e1⟩ := jt_key ma' hn
    obtain ⟨m', hm', e2⟩ := sub n' hn'
    obtain ⟨m, hm, e3⟩ := jt_key mb'.symm hm'
    exact ⟨m, hm, e3.trans (e2.trans e1)⟩
  intro F3 we3 lo3 hi3 ex3 d1 d2 d4 d6 d7 d8 d9 d10 d11 d12 d13 hf3 hP3
  have hlen := hP3.2.2
  simp only [List.length_append] at hlen
  refine br_t rfl ?_
  unfold wX_within_61
  exact jt_releaseTree (r := 0) (l := []) jt_R_nil (by simp) hf3 (by simp; omega) (fun F' b6 b7 b8 _ _ => And.intro (by decide) (H _))
end
end
section
/-! the law -/
/-- the nodes l hold x and y, in order -/
def jt_K (a3 : Nat → Int32) (x y : Int32) (l : List Nat) : Prop :=
  (x = y ∧ ∃ p, l = [p] ∧ a3 p = x) ∨ (¬ x = y ∧ ∃ p q, l = [p, q] ∧ a3 p < a3 q ∧ ((a3 p = x ∧ a3 q = y) ∨ (a3 p = y ∧ a3 q = x)))
theorem jt_K_cnt {a3 : Nat → Int32} {x y : Int32} {l : List Nat} (h : jt_K a3 x y l) (Q : Int32 → Bool) : l.countP (fun n => Q (a3 n)) = (if Q x = true then 1 else 0) + (if ¬ x = y ∧ Q y = true then 1 else 0) := by
  rcases h with ⟨rfl, p, rfl, e⟩ | ⟨hxy, p, q, rfl, _, ⟨e1, e2⟩ | ⟨e1, e2⟩⟩
  · simp [List.countP_cons, e]
  · simp [List.countP_cons, e1, e2, hxy]
    omega
  · simp [List.countP_cons, e1, e2, hxy]
theorem jt_K_len {a3 : Nat → Int32} {x y : Int32} {l : List Nat} (h : jt_K a3 x y l) : 0 < l.length ∧ l.length ≤ 2 := by
  rcases h with ⟨_, p, rfl, _⟩ | ⟨_, p, q, rfl, _⟩
  · simp
  · simp
theorem jt_K_ends {a3 : Nat → Int32} {x y : Int32} {l : List Nat} (h : jt_K a3 x y l) : (∀ n, l[0]? = some n → a3 n = if y ≤ x then y else x) ∧ (∀ n, l[l.length - 1]? = some n → a3 n = if y ≤ x then x else y) := by
  rcases h with ⟨rfl, p, rfl, e⟩ | ⟨hxy, p, q, rfl, hlt, ⟨e1, e2⟩ | ⟨e1, e2⟩⟩
  · refine ⟨fun n hn => ?_, fun n hn => ?_⟩
    · have hn' : p = n := by simpa using hn
      rw [← hn', e]; simp
    · have hn' : p = n := by simpa using hn
      rw [← hn', e]; simp
  · have g : ¬ y ≤ x := Int32.not_le.mpr (by rw [← e1, ← e2]; exact hlt)
    refine ⟨fun n hn => ?_, fun n hn => ?_⟩
    · have hn' : p = n := by simpa using hn
      rw [← hn', e1, if_neg g]
    · have hn' : q = n := by simpa using hn
      rw [← hn', e2, if_neg g]
  · have g : y ≤ x := Int32.le_of_lt (by rw [← e1, ← e2]; exact hlt)
    refine ⟨fun n hn => ?_, fun n hn => ?_⟩
    · have hn' : p = n := by simpa using hn
      rw [← hn', e1, if_pos g]
    · have hn' : q = n := by simpa using hn
      rw [← hn', e2, if_pos g]
def jt_Qz (z k : Int32) : Bool := !decide (k < z)
def jt_Qr (z lw hg k : Int32) : Bool := !decide (k < z) && (!decide (k < lw) && !decide (hg < k))
theorem jt_Qz_iff {z k : Int32} : jt_Qz z k = true ↔ ¬ k < z := by simp [jt_Qz]
theorem jt_Qr_iff {z lw hg k : Int32} : jt_Qr z lw hg k = true ↔ ¬ k < z ∧ ¬ k < lw ∧ ¬ hg < k := by simp [jt_Qr]
section
variable {fc we lo hi ex : Int32} {a1 a2 a3 a4 a5 a6 a7 a8 a9 a10 a11 a12 a13 : Nat → Int32}
variable {post : Int32 → St0 → Prop} {mc ms kc ks : Nat} {x y z lw hg : Int32}
theorem jt_280 {F l1 l2 : List Nat} {n g ga gb : Nat} (hp : post 1 ()) (I : jt_I fc a1 a2 a3 a4 a5 a6 F l1 l2) (h2 : l1.length + l2.length ≤ 2) (lt : ∀ n, n ∈ l1 → ∀ m, m ∈ l2 → a3 n < a3 m) (hn : l1.length + l2.length + g = n) (hg : g = ga + gb) :
    wL_lawOf_280 post mc ms (nI n) (nI g) (nI gb) (nI ga) (nI g) kc ks fc we lo hi ex a1 a2 a3 a4 a5 a6 a7 a8 a9 a10 a11 a12 a13 := by
  refine br_t (by rw [nI_add, hg]) (jt_combine I h2 lt ?_)
  intro fc we lo hi ex b1 b2 b3 b4 b5 b6 b7 b8 b9 b10 b11 b12 b13 G m1 em k3 I'
  refine br_t ?_ (jt_within I' ?_ (by omega) ?_ ?_)
  · rw [pk_sub (by omega), show n - g = l1.length + l2.length by omega]
  · have := congrArg List.length em
    simp only [List.length_map, List.length_append] at this
    omega
  · intro n hn
    have h : b3 n ∈ m1.map b3 := by rw [em, k3 n hn]; exact List.mem_map_of_mem (List.mem_append_right _ hn)
    exact List.mem_map.mp h
  · intro ⟨u1, u2, u3, u4, u5, u6, u7, u8, u9, u10, u11, u12, u13, u14, u15, u16, u17, u18⟩
    exact br_f (by decide) hp
theorem jt_256 {n g : Int32} {va vb : Nat} (ha : va ≤ 1) (hb : vb ≤ 1) (H : wL_lawOf_280 post mc ms n g (nI vb) (nI va) g kc ks fc we lo hi ex a1 a2 a3 a4 a5 a6 a7 a8 a9 a10 a11 a12 a13) : wL_lawOf_256 post mc ms n g (nI va) (nI vb) kc ks fc we lo hi ex a1 a2 a3 a4 a5 a6 a7 a8 a9 a10 a11 a12 a13 := by
  have h270 : ∀ {w : Int32}, wL_lawOf_280 post mc ms n g (nI vb) w g kc ks fc we lo hi ex a1 a2 a3 a4 a5 a6 a7 a8 a9 a10 a11 a12 a13 → wL_lawOf_270 post mc ms n g (nI vb) w g kc ks fc we lo hi ex a1 a2 a3 a4 a5 a6 a7 a8 a9 a10 a11 a12 a13 := by
    intro w h
    rcases (show vb = 0 ∨ vb = 1 by omega) with e | e
    · subst e
      exact br_t rfl h
    · subst e
      exact br_f (by decide) h
  rcases (show va = 0 ∨ va = 1 by omega) with e | e
  · subst e
    exact br_t rfl (h270 H)
  · subst e
    exact br_f (by decide) (h270 H)
theorem jt_228 {n g : Int32} {va : Nat} (H : wL_lawOf_256 post mc ms n g (nI va) (nI (if ¬ x = y ∧ jt_Qr z lw hg y = true then 1 else 0)) kc ks fc we lo hi ex a1 a2 a3 a4 a5 a6 a7 a8 a9 a10 a11 a12 a13) : wL_lawOf_228 post mc ms x y z lw hg n g (nI va) kc ks fc we lo hi ex a1 a2 a3 a4 a5 a6 a7 a8 a9 a10 a11 a12 a13 := by
  simp only [jt_Qr_iff] at H
  refine br_c (fun h => ?_) (fun h => br_c (fun h1 => ?_) (fun h1 => br_c (fun h2 => ?_) (fun h2 => br_c (fun h3 => ?_) (fun h3 => ?_))))
  · rw [if_neg (fun k => k.1 h)] at H
    exact H
  · rw [if_neg (fun k => k.2.1 h1)] at H
    exact H
  · rw [if_neg (fun k => k.2.2.1 h2)] at H
    exact H
  · rw [if_neg (fun k => k.2.2.2 h3)] at H
    exact H
  · rw [if_pos ⟨h, h1, h2, h3⟩] at H
    exact H
/-- what stands behind removeRange's answer g -/
theorem jt_196b {F ll h : List Nat} {n g : Nat} (hp : post 1 ()) (I : jt_I fc a1 a2 a3 a4 a5 a6 F ll h) (h2 : ll.length + h.length ≤ 2) (lt : ∀ n, n ∈ ll → ∀ m, m ∈ h → a3 n < a3 m) (hn : ll.length + h.length + g = n) (hgg : g = (if jt_Qr z lw hg x = true then 1 else 0) + (if ¬ x = y ∧ jt_Qr z lw hg y = true then 1 else 0)) :
    (x < z → wL_lawOf_227 post mc ms x y z lw hg (nI n) (nI g) kc ks fc we lo hi ex a1 a2 a3 a4 a5 a6 a7 a8 a9 a10 a11 a12 a13) ∧ (¬ x < z → ((x < lw → wL_lawOf_227 post mc ms x y z lw hg (nI n) (nI g) kc ks fc we lo hi ex a1 a2 a3 a4 a5 a6 a7 a8 a9 a10 a11 a12 a13) ∧ (¬ x < lw → ((hg < x → wL_lawOf_227 post mc ms x y z lw hg (nI n) (nI g) kc ks fc we lo hi ex a1 a2 a3 a4 a5 a6 a7 a8 a9 a10 a11 a12 a13) ∧ (¬ hg < x → wL_lawOf_228 post mc ms x y z lw hg (nI n) (nI g) 1 kc ks fc we lo hi ex a1 a2 a3 a4 a5 a6 a7 a8 a9 a10 a11 a12 a13))))) := by
  have hb : (if ¬ x = y ∧ jt_Qr z lw hg y = true then 1 else 0) ≤ 1 := by split <;> omega
  have key : ∀ va : Nat, va ≤ 1 → va = (if jt_Qr z lw hg x = true then 1 else 0) → wL_lawOf_228 post mc ms x y z lw hg (nI n) (nI g) (nI va) kc ks fc we lo hi ex a1 a2 a3 a4 a5 a6 a7 a8 a9 a10 a11 a12 a13 := fun va hva e => jt_228 (jt_256 hva hb (jt_280 hp I h2 lt hn (by rw [hgg, e])))
  simp only [jt_Qr_iff] at key
  refine br_c (fun h => ?_) (fun h => br_c (fun h1 => ?_) (fun h1 => br_c (fun h2 => ?_) (fun h2 => ?_)))
  · exact key 0 (by omega) (if_neg (fun k => k.1 h)).symm
  · exact key 0 (by omega) (if_neg (fun k => k.2.1 h1)).symm
  · exact key 0 (by omega) (if_neg (fun k => k.2.2 h2)).symm
  · exact key 1 (by omega) (if_pos ⟨h, h1, h2⟩).symm
theorem jt_196 {F l ll h : List Nat} (hp : post 1 ()) (I : jt_I fc a1 a2 a3 a4 a5 a6 F ll h) (K : jt_K a3 x y l) (so : jt_So a3 l) (e : l = ll ++ h) (hl : ∀ n, n ∈ ll → a3 n < z) (hh : ∀ n, n ∈ h → ¬ a3 n < z) :
    wL_lawOf_196 post mc ms x y z lw hg (nI l.length) kc ks fc we lo hi ex a1 a2 a3 a4 a5 a6 a7 a8 a9 a10 a11 a12 a13 := by
  have cnt := jt_K_cnt K (jt_Qr z lw hg)
  have len := (jt_K_len K).2
  have el : l.length = ll.length + h.length := by rw [e, List.length_append]
  have lt := (jt_So_app.mp (e ▸ so)).2.2
  have cl : ll.countP (fun n => jt_Qr z lw hg (a3 n)) = 0 := List.countP_eq_zero.mpr (fun n hn k => (jt_Qr_iff.mp k).1 (hl n hn))
  rw [e, List.countP_append, cl, Nat.zero_add] at cnt
  unfold wL_lawOf_196
  refine jt_removeRange I (by omega) ?_ ?_
  · intro hx
    have hx' : hg < lw := Int32.not_le.mp hx
    have ch : h.countP (fun n => jt_Qr z lw hg (a3 n)) = 0 := List.countP_eq_zero.mpr (fun n hn k => by
      obtain ⟨k1, k2, k3⟩ := jt_Qr_iff.mp k
      exact k2 (Int32.lt_of_le_of_lt (Int32.not_lt.mp k3) hx'))
    rw [ch] at cnt
    exact jt_196b (g := 0) hp I (by omega) lt (by omega) cnt
  · intro hx fc we lo hi ex b1 b2 b4 b5 b6 b7 b8 G A C D eh hA hC hD I'
    have cA : A.countP (fun n => jt_Qr z lw hg (a3 n)) = 0 := List.countP_eq_zero.mpr (fun n hn k => (jt_Qr_iff.mp k).2.1 (hA n hn))
    have cD : D.countP (fun n => jt_Qr z lw hg (a3 n)) = 0 := List.countP_eq_zero.mpr (fun n hn k => (jt_Qr_iff.mp k).2.2 (hD n hn))
    have cC : C.countP (fun n => jt_Qr z lw hg (a3 n)) = C.length := List.countP_eq_length.mpr (fun n hn => jt_Qr_iff.mpr ⟨hh n (by rw [eh]; simp [hn]), (hC n hn).1, (hC n hn).2⟩)
    rw [eh, List.countP_append, List.countP_append, cA, cC, cD, Nat.zero_add, Nat.add_zero] at cnt
    have lh : h.length = A.length + C.length + D.length := by rw [eh, List.length_append, List.length_append]
    refine jt_196b (g := C.length) hp I' (by rw [List.length_append]; omega) (fun n hn m hm => lt n hn m ?_) (by rw [List.length_append]; omega) cnt
    rw [eh]
    rcases List.mem_append.mp hm with k | k
    · simp [k]
    · simp [k]
theorem jt_143 {F l : List Nat} {x8 z0 : Int32} (hp : post 1 ()) (I : jt_I fc a1 a2 a3 a4 a5 a6 F l []) (K : jt_K a3 x y l) (hm : ∀ n, l[l.length - 1]? = some n → a3 n = x8) (hz : z0 = nI ((if jt_Qz z x = true then 1 else 0) + (if ¬ x = y ∧ jt_Qz z y = true then 1 else 0))) :
    wL_lawOf_143 post mc ms x y z lw hg (nI l.length) x8 z0 kc ks fc we lo hi ex a1 a2 a3 a4 a5 a6 a7 a8 a9 a10 a11 a12 a13 := by
  have cnt := jt_K_cnt K (jt_Qz z)
  rw [← cnt] at hz
  have len := (jt_K_len K).2
  have so := I.2.2.2.2.2.2.1
  unfold wL_lawOf_143
  refine jt_split I len ?_
  intro fc we lo hi ex b1 b2 b4 b5 b6 b7 b8 G ll h e hl hh I'
  have cl : ll.countP (fun n => jt_Qz z (a3 n)) = 0 := List.countP_eq_zero.mpr (fun n hn k => jt_Qz_iff.mp k (hl n hn))
  have ch : h.countP (fun n => jt_Qz z (a3 n)) = h.length := List.countP_eq_length.mpr (fun n hn => jt_Qz_iff.mpr (hh n hn))
  have hz' : z0 = nI h.length := by rw [hz, e, List.countP_append, cl, ch, Nat.zero_add]
  have el : l.length = ll.length + h.length := by rw [e, List.length_append]
  have I2 := I'
  obtain ⟨_, _, _, zz, ⟨r1, f5, t1⟩, ⟨r2, f5', t2⟩, _, _⟩ := I2
  subst hz'
  have fin := jt_196 (mc := mc) (ms := ms) (kc := kc) (ks := ks) (we := we) (lo := lo) (hi := hi) (ex := ex) (a7 := b7) (a8 := b8) (a9 := a9) (a10 := a10) (a11 := a11) (a12 := a12) (a13 := a13) (lw := lw) (hg := hg) hp I' K so e hl hh
  refine br_t rfl (jt_size (s := 1) zz (by omega) f5 t1 (br_t ?_ (pk_le h.length 0 (fun _ => fin) (fun g => ?_) rfl rfl (by omega) (by omega))))
  · rw [pk_sub (by omega), show l.length - h.length = ll.length by omega]
  · obtain ⟨j, ej⟩ : ∃ j, h.length = j + 1 := ⟨h.length - 1, by omega⟩
    rw [ej, nI_pred]
    refine jt_at (s := 2) zz (by omega) f5' t2 (by omega) (by omega) (fun n hn => br_t (hm n ?_) fin)
    rw [e, List.length_append, List.getElem?_append_right (by omega), show ll.length + h.length - 1 - ll.length = j by omega]
    exact hn
theorem jt_73 {F l : List Nat} {x7 x8 : Int32} (hp : post 1 ()) (I : jt_I fc a1 a2 a3 a4 a5 a6 F l []) (K : jt_K a3 x y l) (h0 : ∀ n, l[0]? = some n → a3 n = x7) (hm : ∀ n, l[l.length - 1]? = some n → a3 n = x8) :
    wL_lawOf_73 post mc ms x y z lw hg (nI l.length) x7 x8 kc ks fc we lo hi ex a1 a2 a3 a4 a5 a6 a7 a8 a9 a10 a11 a12 a13 := by
  obtain ⟨len0, len⟩ := jt_K_len K
  have I2 := I
  obtain ⟨_, _, _, zz, ⟨r1, f5, t1⟩, _, _, _⟩ := I2
  have k143 : ∀ z0 : Int32, z0 = nI ((if jt_Qz z x = true then 1 else 0) + (if ¬ x = y ∧ jt_Qz z y = true then 1 else 0)) → wL_lawOf_143 post mc ms x y z lw hg (nI l.length) x8 z0 kc ks fc we lo hi ex a1 a2 a3 a4 a5 a6 a7 a8 a9 a10 a11 a12 a13 := fun z0 hz => jt_143 hp I K hm hz
  simp only [jt_Qz_iff] at k143
  unfold wL_lawOf_73
  refine jt_at (s := 1) zz (by omega) f5 t1 (by omega) len0 (fun n hn => br_t (h0 n hn) ?_)
  obtain ⟨j, ej⟩ : ∃ j, l.length = j + 1 := ⟨l.length - 1, by omega⟩
  rw [show (nI l.length - 1 : Int32) = nI (l.length - 1) by rw [ej, nI_pred]; rfl]
  refine jt_at (s := 1) zz (by omega) f5 t1 (by omega) (by omega) (fun n hn => br_t (hm n hn) ?_)
  refine br_c (fun hxy => br_c (fun hx => k143 _ ?_) (fun hx => k143 _ ?_)) (fun hxy => br_c (fun hx => br_c (fun hy => k143 _ ?_) (fun hy => k143 _ ?_)) (fun hx => br_c (fun hy => k143 _ ?_) (fun hy => k143 _ ?_)))
  · rw [if_neg (fun k => k hx), if_neg (fun k => k.1 hxy)]; rfl
  · rw [if_pos hx, if_neg (fun k => k.1 hxy)]; rfl
  · rw [if_neg (fun k => k hx), if_neg (fun k => k.2 hy)]; rfl
  · rw [if_neg (fun k => k hx), if_pos ⟨hxy, hy⟩]; rfl
  · rw [if_pos hx, if_neg (fun k => k.2 hy)]; rfl
  · rw [if_pos hx, if_pos ⟨hxy, hy⟩]; rfl
theorem jt_34 {F l : List Nat} {v : Int32} (hp : post 1 ()) (I : jt_I fc a1 a2 a3 a4 a5 a6 F l []) (K : jt_K a3 x y l) :
    wL_lawOf_34 post mc ms x y z lw hg v v kc ks fc we lo hi ex a1 a2 a3 a4 a5 a6 a7 a8 a9 a10 a11 a12 a13 := by
  have k49 : wL_lawOf_49 post mc ms x y z lw hg (nI l.length) kc ks fc we lo hi ex a1 a2 a3 a4 a5 a6 a7 a8 a9 a10 a11 a12 a13 := by
    obtain ⟨E1, E2⟩ := jt_K_ends K
    refine br_c (fun hyx => br_t hyx (jt_73 hp I K (fun n hn => ?_) (fun n hn => ?_))) (fun hyx => br_f hyx (jt_73 hp I K (fun n hn => ?_) (fun n hn => ?_)))
    · rw [E1 n hn, if_pos hyx]
    · rw [E2 n hn, if_pos hyx]
    · rw [E1 n hn, if_neg hyx]
    · rw [E2 n hn, if_neg hyx]
  refine br_t rfl (br_c (fun hxy => ?_) (fun hxy => ?_))
  · rcases K with ⟨_, p, e, _⟩ | ⟨h, _⟩
    · rw [e] at k49
      exact k49
    · exact absurd hxy h
  · rcases K with ⟨h, _⟩ | ⟨_, p, q, e, _⟩
    · exact absurd h hxy
    · rw [e] at k49
      exact k49
end
theorem jt_lawOf {post : Int32 → St0 → Prop} {x y z lw hg : Int32} (hp : post 1 ()) : wpL_lawOf post 446 7136 () x y z lw hg := by
  unfold wpL_lawOf
  refine ⟨by omega, by omega, 445, 7118, by omega, by omega, jt_init (by omega) (by omega) ?_⟩
  intro fc we lo hi ex a1 a2 a3 a4 a5 a6 a7 a8 a9 a10 a11 a12 a13 F I
  refine jt_add I (by simp) (fun ⟨n, hn, _⟩ => nomatch hn) ?_
  intro _ fc we lo hi ex b1 b2 b3 b4 b5 b6 b7 b8 b9 b10 b11 b12 b13 G ll hl c e _ _ ec _ I1
  have e' := List.append_eq_nil_iff.mp e.symm
  obtain ⟨rfl, rfl⟩ := e'
  refine jt_add I1 (by simp) ?_ ?_
  · intro ⟨n, hn, en⟩
    have hn' : n = c := by simpa using hn
    have hxy : x = y := by rw [← ec, ← hn', en]
    exact br_t hxy (jt_34 hp I1 (Or.inl ⟨hxy, c, rfl, ec⟩))
  · intro hne fc we lo hi ex c1 c2 c3 c4 c5 c6 c7 c8 c9 c10 c11 c12 c13 G2 ll hl d e2 q1 q3 ed k3 I2
    have hxy : ¬ x = y := fun g => hne c (by simp) (ec.trans g)
    have k3c : c3 c = x := (k3 c (by simp)).trans ec
    refine br_f hxy (jt_34 hp I2 (Or.inr ⟨hxy, ?_⟩))
    have e3 : [c] = ll ++ hl := e2
    cases ll with
    | nil =>
      have e4 : hl = [c] := e3.symm
      subst e4
      refine ⟨d, c, rfl, ?_, Or.inr ⟨ed, k3c⟩⟩
      rw [ed, k3c, ← ec]
      exact q3 c (by simp)
    | cons w ll' =>
      rw [List.cons_append] at e3
      injection e3 with e4 e5
      obtain ⟨rfl, rfl⟩ := List.append_eq_nil_iff.mp e5.symm
      subst e4
      refine ⟨c, d, rfl, ?_, Or.inl ⟨k3c, ed⟩⟩
      rw [ed, k3c, ← ec]
      exact q1 c (by simp)
theorem jt_cell {post : Int32 → Prop} {L : Nat} {xs : Nat → Int32} {i : Nat} (hL : L ≤ 5) (hi : i < 5) (H : ∀ v, post v) : wpL_cellAt post L xs () (nI i) :=
  pk_le L i (fun _ => H _) (fun g => ⟨vp_in_nI g (by omega), H _⟩) rfl rfl (by omega) (by omega)
end
section
theorem i_vc (xs : Nat → Int32) (L : Nat) (hL : L ≤ 5) : wpL_law (fun r => r = 1) L xs := by
  unfold wpL_law
  refine jt_cell (i := 0) hL (by omega) (fun x => jt_cell (i := 1) hL (by omega) (fun y => jt_cell (i := 2) hL (by omega) (fun z => jt_cell (i := 3) hL (by omega) (fun lw => jt_cell (i := 4) hL (by omega) (fun hg => ?_)))))
  exact ⟨446, 7136, by omega, by omega, jt_lawOf rfl⟩
end

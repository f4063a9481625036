section
/-! ===== 01: the lifted state: whole numbers for the ints, the reads and the writes ===== -/
def ct_i (z : Int) : Int32 := Int32.ofInt z
def ct_b (z : Int) : Int32 := (Int32.ofInt z).toInt8.toInt32
def ct_a (f : Int → Int) : Nat → Int32 := fun j => ct_i (f (j : Int))
def ct_c (f : Int → Int) : Nat → Int32 := fun j => ct_b (f (j : Int))
def ct_up (f : Int → Int) (z v : Int) : Int → Int := fun j => if j = z then v else f j
def ct_st (A : Nat → Int → Int) (k : Nat) (f : Int → Int) : Nat → Int → Int := fun k' => cond (Nat.beq k' k) f (A k')
/-- the state that A stands for -/
def ct_lf (A : Nat → Int → Int) : St1 := (ct_i (A 0 0), ct_c (A 1), ct_c (A 2), ct_a (A 3), ct_c (A 4), ct_a (A 5), ct_a (A 6), ct_c (A 7), ct_c (A 8), ct_a (A 9), ct_a (A 10), ct_c (A 11), ct_c (A 12), ct_a (A 13), ct_c (A 14), ct_c (A 15), ct_c (A 16))
theorem ct_iT {z : Int} (h0 : -2147483648 ≤ z) (h1 : z < 2147483648) : (ct_i z).toInt = z := Int32.toInt_ofInt_of_le (by omega) (by omega)
theorem ct_bI {z : Int} (h0 : -128 ≤ z) (h1 : z < 128) : ct_b z = ct_i z := by
  apply Int32.toInt_inj.1
  unfold ct_b
  rw [Int8.toInt_toInt32, Int32.toInt_toInt8]
  have e : (Int32.ofInt z).toInt = z := ct_iT (by omega) (by omega)
  rw [e]
  rw [show (ct_i z).toInt = z from e]
  exact Int.bmod_eq_of_le (by omega) (by omega)
theorem ct_add (a b : Int) : ct_i a + ct_i b = ct_i (a + b) := (Int32.ofInt_add a b).symm
theorem ct_sub (a b : Int) : ct_i a - ct_i b = ct_i (a - b) := (Int32.ofInt_sub a b).symm
theorem ct_mul (a b : Int) : ct_i a * ct_i b = ct_i (a * b) := (Int32.ofInt_mul a b).symm
theorem ct_neg (a : Int) : -ct_i a = ct_i (-a) := (Int32.ofInt_neg a).symm
theorem ct_le {a b : Int} (ha : -2147483648 ≤ a) (ha' : a < 2147483648) (hb : -2147483648 ≤ b) (hb' : b < 2147483648) : ct_i a ≤ ct_i b ↔ a ≤ b := by
  rw [Int32.le_iff_toInt_le, ct_iT ha ha', ct_iT hb hb']
theorem ct_lt {a b : Int} (ha : -2147483648 ≤ a) (ha' : a < 2147483648) (hb : -2147483648 ≤ b) (hb' : b < 2147483648) : ct_i a < ct_i b ↔ a < b := by
  rw [Int32.lt_iff_toInt_lt, ct_iT ha ha', ct_iT hb hb']
theorem ct_eq {a b : Int} (ha : -2147483648 ≤ a) (ha' : a < 2147483648) (hb : -2147483648 ≤ b) (hb' : b < 2147483648) : ct_i a = ct_i b ↔ a = b := by
  rw [← Int32.toInt_inj, ct_iT ha ha', ct_iT hb hb']
theorem ct_cl {z : Int} (h0 : 0 ≤ z) (h1 : z < 2147483648) : (ct_i z).toNatClampNeg = z.toNat :=
  Int32.toNatClampNeg_ofInt_of_le (by omega) (by omega)
theorem ct_l0 : (0 : Int32) = ct_i 0 := rfl
theorem ct_l1 : (1 : Int32) = ct_i 1 := rfl
theorem ct_l2 : (2 : Int32) = ct_i 2 := rfl
theorem ct_l3 : (3 : Int32) = ct_i 3 := rfl
theorem ct_l4 : (4 : Int32) = ct_i 4 := rfl
theorem ct_l5 : (5 : Int32) = ct_i 5 := rfl
theorem ct_l6 : (6 : Int32) = ct_i 6 := rfl
theorem ct_l24 : (24 : Int32) = ct_i 24 := rfl
theorem ct_l25 : (25 : Int32) = ct_i 25 := rfl
theorem ct_l31 : (31 : Int32) = ct_i 31 := rfl
theorem ct_l99 : (99 : Int32) = ct_i 99 := rfl
theorem ct_l100 : (100 : Int32) = ct_i 100 := rfl
theorem ct_lm1 : (-1 : Int32) = ct_i (-1) := rfl
theorem ct_lm2 : (-2 : Int32) = ct_i (-2) := rfl
theorem ct_lm3 : (-3 : Int32) = ct_i (-3) := rfl
theorem ct_in {z : Int} {N : Nat} (h0 : 0 ≤ z) (h1 : z < N) (hN : N < 2147483648) : vp_in (ct_i z) N := by
  rw [vp_in_iff, ct_iT (by omega) (by omega)]
  exact ⟨h0, h1⟩
theorem ct_inT {z : Int} {N : Nat} (h0 : 0 ≤ z) (h1 : z < N) (hN : N < 2147483648) : vp_in (ct_i z) N = True := eq_true (ct_in h0 h1 hN)
theorem ct_rd {f : Int → Int} {z : Int} (h0 : 0 ≤ z) (h1 : z < 2147483648) : ct_a f (ct_i z).toNatClampNeg = ct_i (f z) := by
  rw [ct_cl h0 h1]
  unfold ct_a
  rw [Int.toNat_of_nonneg h0]
theorem ct_rc {f : Int → Int} {z : Int} (h0 : 0 ≤ z) (h1 : z < 2147483648) : ct_c f (ct_i z).toNatClampNeg = ct_b (f z) := by
  rw [ct_cl h0 h1]
  unfold ct_c
  rw [Int.toNat_of_nonneg h0]
theorem ct_upN (g : Int → Int32) (f : Int → Int) (k : Nat) (v : Int) (x : Int32) (hx : x = g v) : upd (fun j : Nat => g (f (j : Int))) k x = fun j : Nat => g (ct_up f (k : Int) v (j : Int)) := by
  funext j
  unfold upd ct_up
  by_cases h : j = k
  · rw [if_pos h, if_pos (by omega), hx]
  · rw [if_neg h, if_neg (by omega)]
theorem ct_wr {f : Int → Int} {z v : Int} (h0 : 0 ≤ z) (h1 : z < 2147483648) : upd (ct_a f) (ct_i z).toNatClampNeg (ct_i v) = ct_a (ct_up f z v) := by
  rw [ct_cl h0 h1]
  have := ct_upN ct_i f z.toNat v (ct_i v) rfl
  rw [Int.toNat_of_nonneg h0] at this
  exact this
theorem ct_wc {f : Int → Int} {z v : Int} (h0 : 0 ≤ z) (h1 : z < 2147483648) : upd (ct_c f) (ct_i z).toNatClampNeg (ct_b v) = ct_c (ct_up f z v) := by
  rw [ct_cl h0 h1]
  have := ct_upN ct_b f z.toNat v (ct_b v) rfl
  rw [Int.toNat_of_nonneg h0] at this
  exact this
theorem ct_wci {f : Int → Int} {z v : Int} (h0 : 0 ≤ z) (h1 : z < 2147483648) (h2 : -128 ≤ v) (h3 : v < 128) : upd (ct_c f) (ct_i z).toNatClampNeg (ct_i v) = ct_c (ct_up f z v) := by
  rw [← ct_bI h2 h3]
  exact ct_wc h0 h1
theorem ct_rc0 (f : Int → Int) : ct_c f 0 = ct_b (f 0) := rfl
theorem ct_rc1 (f : Int → Int) : ct_c f 1 = ct_b (f 1) := rfl
theorem ct_rc3 (f : Int → Int) : ct_c f 3 = ct_b (f 3) := rfl
theorem ct_rd0 (f : Int → Int) : ct_a f 0 = ct_i (f 0) := rfl
theorem ct_rd1 (f : Int → Int) : ct_a f 1 = ct_i (f 1) := rfl
theorem ct_wc3 (f : Int → Int) (v : Int) : upd (ct_c f) 3 (ct_b v) = ct_c (ct_up f 3 v) := ct_upN ct_b f 3 v (ct_b v) rfl
theorem ct_wc3i {f : Int → Int} {v : Int} (h2 : -128 ≤ v) (h3 : v < 128) : upd (ct_c f) 3 (ct_i v) = ct_c (ct_up f 3 v) := by
  rw [← ct_bI h2 h3]
  exact ct_wc3 f v
theorem ct_wc0 (f : Int → Int) (v : Int) : upd (ct_c f) 0 (ct_b v) = ct_c (ct_up f 0 v) := ct_upN ct_b f 0 v (ct_b v) rfl
theorem ct_wc0i {f : Int → Int} {v : Int} (h2 : -128 ≤ v) (h3 : v < 128) : upd (ct_c f) 0 (ct_i v) = ct_c (ct_up f 0 v) := by
  rw [← ct_bI h2 h3]
  exact ct_wc0 f v
theorem ct_wr0 (f : Int → Int) (v : Int) : upd (ct_a f) 0 (ct_i v) = ct_a (ct_up f 0 v) := ct_upN ct_i f 0 v (ct_i v) rfl
theorem ct_nb (v : Int) : vp_nar .byte (ct_b v) = ct_b v := pk_vb _
theorem ct_nbi (v : Int) : vp_nar .byte (ct_i v) = ct_b v := vp_nar_byte _
theorem ct_tb (v : Int) : (ct_i v).toInt8.toInt32 = ct_b v := rfl
theorem ct_us {f : Int → Int} {z v : Int} : ct_up f z v z = v := if_pos rfl
theorem ct_un {f : Int → Int} {z v j : Int} (h : j ≠ z) : ct_up f z v j = f j := if_neg h
theorem ct_wce {f : Int → Int} {z v : Int} {e x : Int32} (he : e = ct_i z) (h0 : 0 ≤ z) (h1 : z < 2147483648) (hx : x = ct_b v) : upd (ct_c f) e.toNatClampNeg x = ct_c (ct_up f z v) := by
  subst he hx
  exact ct_wc h0 h1
/-- moved one place up: places lo + 1 .. hi take what stood one below -/
def ct_sR (f : Int → Int) (lo hi : Int) : Int → Int := fun j => if lo < j ∧ j ≤ hi then f (j - 1) else f j
/-- moved one place down: places lo .. hi - 1 take what stood one above -/
def ct_sL (f : Int → Int) (lo hi : Int) : Int → Int := fun j => if lo ≤ j ∧ j < hi then f (j + 1) else f j
/-- n places copied from s to d -/
def ct_cp (f : Int → Int) (d s n : Int) : Int → Int := fun j => if d ≤ j ∧ j < d + n then f (s + (j - d)) else f j
end
section
/-! ===== 02: trees over a heap of pages: plain lists ===== -/
abbrev ct_KV : Type := Int × Int
abbrev ct_Hp : Type := Int → List ct_KV × List Int
abbrev ct_Fr : Type := Int × (List ct_KV × List Int) × (List ct_KV × List Int)
def ct_zl : List ct_KV → List (List ct_KV) → List ct_KV
  | k :: ks, c :: cs => c ++ k :: ct_zl ks cs
  | _, _ => []
def ct_zr : List ct_KV → List (List ct_KV) → List ct_KV
  | k :: ks, c :: cs => k :: (c ++ ct_zr ks cs)
  | _, _ => []
def ct_wv (ks : List ct_KV) : List (List ct_KV) → List ct_KV
  | [] => ks
  | c :: cs => c ++ ct_zr ks cs
/-- the content of the tree of depth d at page x, in order -/
def ct_fl (H : ct_Hp) : Nat → Int → List ct_KV
  | 0, x => (H x).1
  | d + 1, x => ct_wv (H x).1 ((H x).2.map (ct_fl H d))
/-- its pages -/
def ct_pg (H : ct_Hp) : Nat → Int → List Int
  | 0, x => [x]
  | d + 1, x => x :: ((H x).2.map (ct_pg H d)).flatten
/-- its shape: all below the top well formed, the top's count free -/
def ct_sh (H : ct_Hp) : Nat → Int → Prop
  | 0, x => (H x).2 = []
  | d + 1, x => (H x).2.length = (H x).1.length + 1 ∧ ∀ c, c ∈ (H x).2 → ct_sh H d c ∧ 2 ≤ (H c).1.length ∧ (H c).1.length ≤ 4
def ct_wf (H : ct_Hp) (d : Nat) (x : Int) : Prop := ct_sh H d x ∧ 2 ≤ (H x).1.length ∧ (H x).1.length ≤ 4
def ct_lo : List ct_Fr → Nat
  | [] => 1
  | _ :: _ => 2
/-- the page x (depth d) hangs in the hole of the frames fs below the root r -/
def ct_Cx (H : ct_Hp) : Nat → List ct_Fr → Int → Int → Prop
  | _, [], x, r => x = r
  | d, (p, (ka, ca), (kb, cb)) :: fs, x, r => H p = (ka ++ kb, ca ++ x :: cb) ∧ ka.length = ca.length ∧ kb.length = cb.length ∧ ct_lo fs ≤ ka.length + kb.length ∧ ka.length + kb.length ≤ 4 ∧ (∀ c, c ∈ ca ++ cb → ct_wf H d c) ∧ ct_Cx H (d + 1) fs p r
def ct_CP (H : ct_Hp) : Nat → List ct_Fr → List Int
  | _, [] => []
  | d, (p, (_, ca), (_, cb)) :: fs => p :: (((ca ++ cb).map (ct_pg H d)).flatten ++ ct_CP H (d + 1) fs)
def ct_CL (H : ct_Hp) : Nat → List ct_Fr → List ct_KV
  | _, [] => []
  | d, (_, (ka, ca), _) :: fs => ct_CL H (d + 1) fs ++ ct_zl ka (ca.map (ct_fl H d))
def ct_CR (H : ct_Hp) : Nat → List ct_Fr → List ct_KV
  | _, [] => []
  | d, (_, _, (kb, cb)) :: fs => ct_zr kb (cb.map (ct_fl H d)) ++ ct_CR H (d + 1) fs
theorem ct_zr_app {ka kb : List ct_KV} {ca cb : List (List ct_KV)} (h : ka.length = ca.length) : ct_zr (ka ++ kb) (ca ++ cb) = ct_zr ka ca ++ ct_zr kb cb := by
  induction ka generalizing ca with
  | nil => cases ca with
    | nil => simp [ct_zr]
    | cons c cs => simp at h
  | cons k ks ih => cases ca with
    | nil => simp at h
    | cons c cs =>
      have := ih (ca := cs) (by simpa using h)
      simp [ct_zr, this]
theorem ct_wv_mid {ka kb : List ct_KV} {ca cb : List (List ct_KV)} {c : List ct_KV} (h : ka.length = ca.length) : ct_wv (ka ++ kb) (ca ++ c :: cb) = ct_zl ka ca ++ (c ++ ct_zr kb cb) := by
  induction ka generalizing ca with
  | nil => cases ca with
    | nil => simp [ct_zl, ct_wv]
    | cons c cs => simp at h
  | cons k ks ih => cases ca with
    | nil => simp at h
    | cons c0 cs =>
      have := ih (ca := cs) (by simpa using h)
      cases cs with
      | nil => simp [ct_zl, ct_wv, ct_zr] at this ⊢; exact this
      | cons c1 cs => simp [ct_zl, ct_wv, ct_zr] at this ⊢; exact this
theorem ct_wv_spl {k1 k2 : List ct_KV} {m : ct_KV} {c1 c2 : List (List ct_KV)} (h1 : c1.length = k1.length + 1) (h2 : c2.length = k2.length + 1) : ct_wv (k1 ++ m :: k2) (c1 ++ c2) = ct_wv k1 c1 ++ m :: ct_wv k2 c2 := by
  cases c1 with
  | nil => simp at h1
  | cons a c1 => cases c2 with
    | nil => simp at h2
    | cons b c2 =>
      have := ct_zr_app (ka := k1) (kb := m :: k2) (ca := c1) (cb := b :: c2) (by simpa using h1.symm)
      simp [ct_wv, this, ct_zr]
theorem ct_zl_len {ka : List ct_KV} {ca : List (List ct_KV)} (h : ka.length = ca.length) : (ct_zl ka ca).length = ka.length + (ca.map List.length).sum := by
  induction ka generalizing ca with
  | nil => cases ca with
    | nil => simp [ct_zl]
    | cons c cs => simp at h
  | cons k ks ih => cases ca with
    | nil => simp at h
    | cons c cs =>
      have := ih (ca := cs) (by simpa using h)
      simp [ct_zl, this]
      omega
theorem ct_zr_len {ka : List ct_KV} {ca : List (List ct_KV)} (h : ka.length = ca.length) : (ct_zr ka ca).length = ka.length + (ca.map List.length).sum := by
  induction ka generalizing ca with
  | nil => cases ca with
    | nil => simp [ct_zr]
    | cons c cs => simp at h
  | cons k ks ih => cases ca with
    | nil => simp at h
    | cons c cs =>
      have := ih (ca := cs) (by simpa using h)
      simp [ct_zr, this]
      omega
theorem ct_wv_len {ks : List ct_KV} {cs : List (List ct_KV)} (h : cs.length = ks.length + 1) : (ct_wv ks cs).length = ks.length + (cs.map List.length).sum := by
  cases cs with
  | nil => simp at h
  | cons c cs =>
    have := ct_zr_len (ka := ks) (ca := cs) (by simpa using h.symm)
    simp [ct_wv, this]
    omega
/-- what doesn't touch the pages of a tree leaves the tree -/
theorem ct_cg {H H' : ct_Hp} : ∀ (d : Nat) (x : Int), (∀ q, q ∈ ct_pg H d x → H' q = H q) → ct_pg H' d x = ct_pg H d x ∧ ct_fl H' d x = ct_fl H d x ∧ (ct_sh H d x → ct_sh H' d x) := by
  intro d
  induction d with
  | zero =>
    intro x h
    have e := h x (by simp [ct_pg])
    refine ⟨rfl, ?_, ?_⟩
    · simp [ct_fl, e]
    · simp [ct_sh, e]
  | succ d ih =>
    intro x h
    have e := h x (by simp [ct_pg])
    have hc : ∀ c, c ∈ (H x).2 → (∀ q, q ∈ ct_pg H d c → H' q = H q) := by
      intro c hc q hq
      apply h
      simp only [ct_pg, List.mem_cons, List.mem_flatten, List.mem_map]
      exact Or.inr ⟨_, ⟨c, hc, rfl⟩, hq⟩
    refine ⟨?_, ?_, ?_⟩
    · simp only [ct_pg, e]
      rw [List.map_congr_left (fun c h => (ih c (hc c h)).1)]
    · simp only [ct_fl, e]
      rw [List.map_congr_left (fun c h => (ih c (hc c h)).2.1)]
    · simp only [ct_sh, e]
      intro hs
      refine ⟨hs.1, fun c h => ?_⟩
      have hx : c ∈ ct_pg H d c := by cases d <;> simp [ct_pg]
      rw [hc c h c hx]
      exact ⟨(ih c (hc c h)).2.2 (hs.2 c h).1, (hs.2 c h).2⟩
theorem ct_pg_self (H : ct_Hp) (d : Nat) (x : Int) : x ∈ ct_pg H d x := by cases d <;> simp [ct_pg]
theorem ct_wf_cg {H H' : ct_Hp} {d : Nat} {x : Int} (h : ∀ q, q ∈ ct_pg H d x → H' q = H q) (hw : ct_wf H d x) : ct_wf H' d x := by
  unfold ct_wf at *
  rw [h x (ct_pg_self H d x)]
  exact ⟨(ct_cg d x h).2.2 hw.1, hw.2⟩
theorem ct_Cx_cg {H H' : ct_Hp} : ∀ (fs : List ct_Fr) (d : Nat) (x r : Int), (∀ q, q ∈ ct_CP H d fs → H' q = H q) → (ct_Cx H d fs x r → ct_Cx H' d fs x r) ∧ ct_CP H' d fs = ct_CP H d fs ∧ ct_CL H' d fs = ct_CL H d fs ∧ ct_CR H' d fs = ct_CR H d fs := by
  intro fs
  induction fs with
  | nil => intro d x r h; simp [ct_Cx, ct_CP, ct_CL, ct_CR]
  | cons f fs ih =>
    obtain ⟨p, ⟨ka, ca⟩, kb, cb⟩ := f
    intro d x r h
    have hp := h p (by simp [ct_CP])
    have hs : ∀ c, c ∈ ca ++ cb → ∀ q, q ∈ ct_pg H d c → H' q = H q := by
      intro c hc q hq
      apply h
      simp only [ct_CP, List.mem_cons, List.mem_append, List.mem_flatten, List.mem_map]
      exact Or.inr (Or.inl ⟨_, ⟨c, List.mem_append.mp hc, rfl⟩, hq⟩)
    have hu : ∀ q, q ∈ ct_CP H (d + 1) fs → H' q = H q := by
      intro q hq
      apply h
      simp only [ct_CP, List.mem_cons, List.mem_append]
      exact Or.inr (Or.inr hq)
    obtain ⟨i1, i2, i3, i4⟩ := ih (d + 1) p r hu
    refine ⟨?_, ?_, ?_, ?_⟩
    · intro hx
      simp only [ct_Cx] at hx ⊢
      obtain ⟨h1, h2, h3, h4, h5, h6, h7⟩ := hx
      exact ⟨by rw [hp, h1], h2, h3, h4, h5, fun c hc => ct_wf_cg (hs c hc) (h6 c hc), i1 h7⟩
    · simp only [ct_CP]
      rw [i2, List.map_congr_left (fun c hc => (ct_cg d c (hs c hc)).1)]
    · simp only [ct_CL]
      rw [i3, List.map_congr_left (fun c hc => (ct_cg d c (hs c (List.mem_append.mpr (Or.inl hc)))).2.1)]
    · simp only [ct_CR]
      rw [i4, List.map_congr_left (fun c hc => (ct_cg d c (hs c (List.mem_append.mpr (Or.inr hc)))).2.1)]
theorem ct_Cx_fl {H : ct_Hp} : ∀ (fs : List ct_Fr) (d : Nat) (x r : Int), ct_Cx H d fs x r → ct_fl H (d + fs.length) r = ct_CL H d fs ++ (ct_fl H d x ++ ct_CR H d fs) := by
  intro fs
  induction fs with
  | nil => intro d x r h; simp only [ct_Cx] at h; simp [ct_CL, ct_CR, h]
  | cons f fs ih =>
    obtain ⟨p, ⟨ka, ca⟩, kb, cb⟩ := f
    intro d x r h
    simp only [ct_Cx] at h
    obtain ⟨h1, h2, h3, h4, h5, h6, h7⟩ := h
    have e := ih (d + 1) p r h7
    rw [show d + (((p, (ka, ca), (kb, cb)) : ct_Fr) :: fs).length = d + 1 + fs.length by simp; omega, e]
    have m : ct_fl H (d + 1) p = ct_zl ka (ca.map (ct_fl H d)) ++ (ct_fl H d x ++ ct_zr kb (cb.map (ct_fl H d))) := by
      simp only [ct_fl, h1, List.map_append, List.map_cons]
      exact ct_wv_mid (by simpa using h2)
    rw [m]
    simp [ct_CL, ct_CR]
/-- one level up: the pages -/
theorem ct_up_pg {H : ct_Hp} {d : Nat} {p x : Int} {ka kb : List ct_KV} {ca cb : List Int} (h : H p = (ka ++ kb, ca ++ x :: cb)) (L : List Int) : (ct_pg H (d + 1) p ++ L).Perm (ct_pg H d x ++ (p :: (((ca ++ cb).map (ct_pg H d)).flatten ++ L))) := by
  simp only [ct_pg, h, List.map_append, List.map_cons, List.flatten_append, List.flatten_cons]
  refine List.Perm.trans ?_ List.perm_middle.symm
  simp only [List.cons_append]
  refine List.Perm.cons p ?_
  simp only [← List.append_assoc]
  refine List.Perm.append_right L (List.Perm.append_right _ ?_)
  exact List.perm_append_comm
theorem ct_Cx_pg {H : ct_Hp} : ∀ (fs : List ct_Fr) (d : Nat) (x r : Int), ct_Cx H d fs x r → (ct_pg H (d + fs.length) r).Perm (ct_pg H d x ++ ct_CP H d fs) := by
  intro fs
  induction fs with
  | nil => intro d x r h; simp only [ct_Cx] at h; simp [ct_CP, h]
  | cons f fs ih =>
    obtain ⟨p, ⟨ka, ca⟩, kb, cb⟩ := f
    intro d x r h
    simp only [ct_Cx] at h
    obtain ⟨h1, h2, h3, h4, h5, h6, h7⟩ := h
    have e := ih (d + 1) p r h7
    rw [show d + (((p, (ka, ca), (kb, cb)) : ct_Fr) :: fs).length = d + 1 + fs.length by simp; omega]
    refine List.Perm.trans e ?_
    simp only [ct_CP]
    exact ct_up_pg h1 _
theorem ct_up_sh {H : ct_Hp} {d : Nat} {p x : Int} {ka kb : List ct_KV} {ca cb : List Int} (h : H p = (ka ++ kb, ca ++ x :: cb)) (h2 : ka.length = ca.length) (h3 : kb.length = cb.length) (h6 : ∀ c, c ∈ ca ++ cb → ct_wf H d c) (hx : ct_wf H d x) : ct_sh H (d + 1) p := by
  simp only [ct_sh, h]
  refine ⟨by simp; omega, fun c hc => ?_⟩
  simp only [List.mem_append, List.mem_cons] at hc
  rcases hc with hc | hc | hc
  · exact h6 c (List.mem_append.mpr (Or.inl hc))
  · subst hc; exact hx
  · exact h6 c (List.mem_append.mpr (Or.inr hc))
theorem ct_Cx_sh {H : ct_Hp} : ∀ (fs : List ct_Fr) (d : Nat) (x r : Int), ct_Cx H d fs x r → ct_sh H d x → ct_lo fs ≤ (H x).1.length → (H x).1.length ≤ 4 → ct_sh H (d + fs.length) r ∧ 1 ≤ (H r).1.length ∧ (H r).1.length ≤ 4 := by
  intro fs
  induction fs with
  | nil => intro d x r h hs h1 h2; simp only [ct_Cx] at h; subst h; exact ⟨hs, h1, h2⟩
  | cons f fs ih =>
    obtain ⟨p, ⟨ka, ca⟩, kb, cb⟩ := f
    intro d x r h hs hl hu
    simp only [ct_Cx] at h
    obtain ⟨h1, h2, h3, h4, h5, h6, h7⟩ := h
    rw [show d + (((p, (ka, ca), (kb, cb)) : ct_Fr) :: fs).length = d + 1 + fs.length by simp; omega]
    exact ih (d + 1) p r h7 (ct_up_sh h1 h2 h3 h6 ⟨hs, hl, hu⟩) (by rw [h1]; simpa using h4) (by rw [h1]; simpa using h5)
/-- how many pages a content has -/
theorem ct_sum_le {α : Type} (f g : α → Nat) : ∀ (l : List α), (∀ a, a ∈ l → 2 * f a ≤ g a) → 2 * (l.map f).sum ≤ (l.map g).sum := by
  intro l
  induction l with
  | nil => intro _; simp
  | cons a l ih =>
    intro h
    have h1 := h a (by simp)
    have h2 := ih (fun b hb => h b (by simp [hb]))
    simp only [List.map_cons, List.sum_cons]
    omega
theorem ct_ct {H : ct_Hp} : ∀ (d : Nat) (x : Int), ct_sh H d x → 2 * (ct_pg H d x).length + (H x).1.length ≤ (ct_fl H d x).length + 2 := by
  intro d
  induction d with
  | zero => intro x h; simp [ct_pg, ct_fl]; omega
  | succ d ih =>
    intro x h
    simp only [ct_sh] at h
    have e : (ct_fl H (d + 1) x).length = (H x).1.length + ((H x).2.map (fun c => (ct_fl H d c).length)).sum := by
      simp only [ct_fl]
      rw [ct_wv_len (by simpa using h.1), List.map_map]
      rfl
    have p : (ct_pg H (d + 1) x).length = ((H x).2.map (fun c => (ct_pg H d c).length)).sum + 1 := by
      simp only [ct_pg, List.length_cons, List.length_flatten, List.map_map]
      rfl
    have s := ct_sum_le (fun c => (ct_pg H d c).length) (fun c => (ct_fl H d c).length) (H x).2 (fun c hc => by
      have := ih c (h.2 c hc).1
      have := (h.2 c hc).2.1
      omega)
    omega
theorem ct_CPc {H : ct_Hp} : ∀ (fs : List ct_Fr) (d : Nat) (x r : Int), ct_Cx H d fs x r → 2 * (ct_CP H d fs).length ≤ (ct_CL H d fs).length + (ct_CR H d fs).length + 1 := by
  intro fs
  induction fs with
  | nil => intro d x r h; simp [ct_CP]
  | cons f fs ih =>
    obtain ⟨p, ⟨ka, ca⟩, kb, cb⟩ := f
    intro d x r h
    simp only [ct_Cx] at h
    obtain ⟨h1, h2, h3, h4, h5, h6, h7⟩ := h
    have i := ih (d + 1) p r h7
    have s := ct_sum_le (fun c => (ct_pg H d c).length) (fun c => (ct_fl H d c).length) (ca ++ cb) (fun c hc => by
      have := ct_ct d c (h6 c hc).1
      have := (h6 c hc).2.1
      omega)
    have z1 : (ct_zl ka (ca.map (ct_fl H d))).length = ka.length + (ca.map (fun c => (ct_fl H d c).length)).sum := by
      rw [ct_zl_len (by simpa using h2), List.map_map]
      rfl
    have z2 : (ct_zr kb (cb.map (ct_fl H d))).length = kb.length + (cb.map (fun c => (ct_fl H d c).length)).sum := by
      rw [ct_zr_len (by simpa using h3), List.map_map]
      rfl
    have z3 : (((ca ++ cb).map (ct_pg H d)).flatten).length = ((ca ++ cb).map (fun c => (ct_pg H d c).length)).sum := by
      rw [List.length_flatten, List.map_map]
      rfl
    simp only [ct_CP, ct_CL, ct_CR, List.length_cons, List.length_append]
    rw [z1, z2, z3]
    simp only [List.map_append, List.sum_append] at s ⊢
    cases fs with
    | nil => simp [ct_lo] at h4; simp [ct_CP, ct_CL, ct_CR]; omega
    | cons f' fs' => simp [ct_lo] at h4; omega
theorem ct_sum_ge {α : Type} (g : α → Nat) (m : Nat) : ∀ (l : List α), (∀ a, a ∈ l → m ≤ g a) → l.length * m ≤ (l.map g).sum := by
  intro l
  induction l with
  | nil => intro _; simp
  | cons a l ih =>
    intro h
    have h1 := h a (by simp)
    have h2 := ih (fun b hb => h b (by simp [hb]))
    simp only [List.map_cons, List.sum_cons, List.length_cons, Nat.add_mul]
    omega
theorem ct_dp {H : ct_Hp} : ∀ (d : Nat) (x : Int), ct_wf H d x → 3 ^ (d + 1) ≤ (ct_fl H d x).length + 1 := by
  intro d
  induction d with
  | zero => intro x h; simp only [ct_fl]; have := h.2.1; omega
  | succ d ih =>
    intro x h
    obtain ⟨hs, h2, h4⟩ := h
    simp only [ct_sh] at hs
    have e : (ct_fl H (d + 1) x).length = (H x).1.length + ((H x).2.map (fun c => (ct_fl H d c).length)).sum := by
      simp only [ct_fl]
      rw [ct_wv_len (by simpa using hs.1), List.map_map]
      rfl
    have g := ct_sum_ge (fun c => (ct_fl H d c).length) (3 ^ (d + 1) - 1) (H x).2 (fun c hc => by
      have := ih c (hs.2 c hc)
      omega)
    have l : 3 * (3 ^ (d + 1) - 1) ≤ (H x).2.length * (3 ^ (d + 1) - 1) := Nat.mul_le_mul_right _ (by omega)
    have q : 3 ^ (d + 1 + 1) = 3 * 3 ^ (d + 1) := by rw [Nat.pow_succ]; omega
    have q1 : 3 ^ 0 ≤ 3 ^ (d + 1) := Nat.pow_le_pow_right (by omega) (by omega)
    omega
/-- a tree of at most 24 keys has at most three levels -/
theorem ct_dep {H : ct_Hp} {d : Nat} {x : Int} (h : ct_sh H d x) (h1 : 1 ≤ (H x).1.length) (h2 : (ct_fl H d x).length ≤ 25) : d ≤ 2 := by
  cases d with
  | zero => omega
  | succ d =>
    rcases Nat.lt_or_ge d 2 with hd | hd
    · omega
    · exfalso
      simp only [ct_sh] at h
      have e : (ct_fl H (d + 1) x).length = (H x).1.length + ((H x).2.map (fun c => (ct_fl H d c).length)).sum := by
        simp only [ct_fl]
        rw [ct_wv_len (by simpa using h.1), List.map_map]
        rfl
      have g := ct_sum_ge (fun c => (ct_fl H d c).length) (3 ^ (d + 1) - 1) (H x).2 (fun c hc => by
        have := ct_dp d c (h.2 c hc)
        omega)
      have l : 2 * (3 ^ (d + 1) - 1) ≤ (H x).2.length * (3 ^ (d + 1) - 1) := Nat.mul_le_mul_right _ (by omega)
      have q : 3 ^ 3 ≤ 3 ^ (d + 1) := Nat.pow_le_pow_right (by omega) (by omega)
      omega
end
section
/-! ===== 03: the small methods ===== -/
def ct_vm (A : Nat → Int → Int) : Int := if A 10 0 = 0 then 1 else if A 10 1 = 0 then 0 else if A 9 0 ≤ A 9 1 then 1 else 0
/-- numbers and validity within reach -/
def ct_ok (A : Nat → Int → Int) : Prop := (∀ m, 0 ≤ A 10 m ∧ A 10 m ≤ 1) ∧ (∀ m, 0 ≤ A 9 m ∧ A 9 m < 1000)
theorem ct_validMeta {post : Int32 → Prop} {A : Nat → Int → Int} (h : ct_ok A) (hp : post (ct_i (ct_vm A))) : wpX_validMeta post (ct_lf A) := by
  have h0 := h.1 0
  have h1 := h.1 1
  have h2 := h.2 0
  have h3 := h.2 1
  unfold wpX_validMeta ct_lf
  dsimp only
  simp (disch := omega) only [ct_l0, ct_l1, ct_l2, ct_l3, ct_l4, ct_l5, ct_l6, ct_l24, ct_l25, ct_l99, ct_l100, ct_neg, ct_add, ct_sub, ct_mul, ct_inT, ct_rd, ct_rc, ct_wr, ct_wc, ct_wci, ct_bI, ct_nb, ct_nbi, ct_tb, ct_le, ct_lt, ct_eq, ct_rc0, ct_rc1, ct_rc3, ct_rd0, ct_rd1, ct_wc3, ct_wc3i, ct_wc0, ct_wc0i, ct_wr0, true_and, forall_eq]
  unfold ct_vm at hp
  refine br_c (fun e => ?_) (fun e => br_c (fun e1 => ?_) (fun e1 => br_c (fun e2 => ?_) (fun e2 => ?_)))
  · rw [if_pos e] at hp; exact hp
  · rw [if_neg e, if_pos e1] at hp; exact hp
  · rw [if_neg e, if_neg e1, if_pos e2] at hp; exact hp
  · rw [if_neg e, if_neg e1, if_neg e2] at hp; exact hp
theorem ct_vm01 (A : Nat → Int → Int) : 0 ≤ ct_vm A ∧ ct_vm A ≤ 1 := by
  unfold ct_vm
  split
  · omega
  · split
    · omega
    · split <;> omega
def ct_fill (f : Int → Int) (n v : Int) : Int → Int := fun j => if 0 ≤ j ∧ j < n then v else f j
theorem ct_fill_up {f : Int → Int} {i v : Int} (h : 0 ≤ i) : ct_up (ct_fill f i v) i v = ct_fill f (i + 1) v := by
  funext j
  unfold ct_up ct_fill
  by_cases e : j = i
  · rw [if_pos e, if_pos (by omega)]
  · rw [if_neg e]
    by_cases e2 : 0 ≤ j ∧ j < i
    · rw [if_pos e2, if_pos (by omega)]
    · rw [if_neg e2, if_neg (by omega)]
theorem ct_fill_0 {f : Int → Int} {v : Int} : ct_fill f 0 v = f := by
  funext j
  unfold ct_fill
  rw [if_neg (by omega)]
theorem ct_settle_2 {post : St1 → Prop} {A : Nat → Int → Int} (f : Int → Int) (hp : post (ct_lf (ct_st A 5 (ct_fill f 100 0)))) : ∀ (m : Nat) (i : Int), 0 ≤ i → i + m = 100 → wX_settle_2 post (ct_i (A 0 0)) (m + 1) (ct_i i) (ct_c ((ct_st A 5 (ct_fill f i 0)) 1)) (ct_c ((ct_st A 5 (ct_fill f i 0)) 2)) (ct_a ((ct_st A 5 (ct_fill f i 0)) 3)) (ct_c ((ct_st A 5 (ct_fill f i 0)) 4)) (ct_a ((ct_st A 5 (ct_fill f i 0)) 5)) (ct_a ((ct_st A 5 (ct_fill f i 0)) 6)) (ct_c ((ct_st A 5 (ct_fill f i 0)) 7)) (ct_c ((ct_st A 5 (ct_fill f i 0)) 8)) (ct_a ((ct_st A 5 (ct_fill f i 0)) 9)) (ct_a ((ct_st A 5 (ct_fill f i 0)) 10)) (ct_c ((ct_st A 5 (ct_fill f i 0)) 11)) (ct_c ((ct_st A 5 (ct_fill f i 0)) 12)) (ct_a ((ct_st A 5 (ct_fill f i 0)) 13)) (ct_c ((ct_st A 5 (ct_fill f i 0)) 14)) (ct_c ((ct_st A 5 (ct_fill f i 0)) 15)) (ct_c ((ct_st A 5 (ct_fill f i 0)) 16)) := by
  intro m
  induction m with
  | zero =>
    intro i h0 h
    unfold wX_settle_2
    simp (disch := omega) only [ct_l0, ct_l1, ct_l2, ct_l3, ct_l4, ct_l5, ct_l6, ct_l24, ct_l25, ct_l99, ct_l100, ct_neg, ct_add, ct_sub, ct_mul, ct_inT, ct_rd, ct_rc, ct_wr, ct_wc, ct_wci, ct_bI, ct_nb, ct_nbi, ct_tb, ct_le, ct_lt, ct_eq, ct_rc0, ct_rc1, ct_rc3, ct_rd0, ct_rd1, ct_wc3, ct_wc3i, ct_wc0, ct_wc0i, ct_wr0, true_and, forall_eq]
    have e : i = 100 := by omega
    subst e
    exact br_t (by omega) hp
  | succ m ih =>
    intro i h0 h
    unfold wX_settle_2
    simp (disch := omega) only [ct_l0, ct_l1, ct_l2, ct_l3, ct_l4, ct_l5, ct_l6, ct_l24, ct_l25, ct_l99, ct_l100, ct_neg, ct_add, ct_sub, ct_mul, ct_inT, ct_rd, ct_rc, ct_wr, ct_wc, ct_wci, ct_bI, ct_nb, ct_nbi, ct_tb, ct_le, ct_lt, ct_eq, ct_rc0, ct_rc1, ct_rc3, ct_rd0, ct_rd1, ct_wc3, ct_wc3i, ct_wc0, ct_wc0i, ct_wr0, true_and, forall_eq]
    refine br_f (by omega) ?_
    have := ih (i + 1) (by omega) (by omega)
    rw [← ct_fill_up h0] at this
    exact this
theorem ct_settle {post : St1 → Prop} {A : Nat → Int → Int} (hp : post (ct_lf (ct_st A 5 (ct_fill (A 5) 100 0)))) : wpX_settle post (ct_lf A) := by
  refine ⟨101, ?_⟩
  have := ct_settle_2 (A := A) (A 5) hp 100 0 (by omega) (by omega)
  rw [ct_fill_0] at this
  exact this
end
section
/-! ===== 04: the metas, readers, commits ===== -/
theorem ct_number {post : Int32 → Prop} {A : Nat → Int → Int} (h : ct_ok A) (hp : post (ct_i (A 9 (ct_vm A)))) : wpX_number post (ct_lf A) := by
  have := ct_vm01 A
  unfold wpX_number ct_lf
  refine ct_validMeta h ?_
  simp (disch := omega) only [ct_l0, ct_l1, ct_l2, ct_l3, ct_l4, ct_l5, ct_l6, ct_l24, ct_l25, ct_l99, ct_l100, ct_neg, ct_add, ct_sub, ct_mul, ct_inT, ct_rd, ct_rc, ct_wr, ct_wc, ct_wci, ct_bI, ct_nb, ct_nbi, ct_tb, ct_le, ct_lt, ct_eq, ct_rc0, ct_rc1, ct_rc3, ct_rd0, ct_rd1, ct_wc3, ct_wc3i, ct_wc0, ct_wc0i, ct_wr0, true_and, forall_eq]
  exact hp
theorem ct_sees {post : Int32 → Prop} {A : Nat → Int → Int} {k : Int} (h0 : 0 ≤ k) (h3 : k ≤ 3) (hb : -128 ≤ A 11 k ∧ A 11 k < 128) (hp : post (if A 11 k = -2 then 0 else 1)) : wpX_sees post (ct_lf A) (ct_i k) := by
  unfold wpX_sees ct_lf
  dsimp only
  simp (disch := omega) only [ct_l0, ct_l1, ct_l2, ct_l3, ct_l4, ct_l5, ct_l6, ct_l24, ct_l25, ct_l99, ct_l100, ct_neg, ct_add, ct_sub, ct_mul, ct_inT, ct_rd, ct_rc, ct_wr, ct_wc, ct_wci, ct_bI, ct_nb, ct_nbi, ct_tb, ct_le, ct_lt, ct_eq, ct_rc0, ct_rc1, ct_rc3, ct_rd0, ct_rd1, ct_wc3, ct_wc3i, ct_wc0, ct_wc0i, ct_wr0, true_and, forall_eq]
  refine br_f (by omega) (br_f (by omega) (br_c (fun e => ?_) (fun e => ?_)))
  · rw [if_pos e] at hp; exact hp
  · rw [if_neg e] at hp; exact hp
theorem ct_size {post : Int32 → Prop} {A : Nat → Int → Int} {k : Int} (h0 : 0 ≤ k) (h3 : k ≤ 3) (hb : -128 ≤ A 11 k ∧ A 11 k < 128) (hb2 : -128 ≤ A 12 k ∧ A 12 k < 128) (hp : post (if A 11 k = -2 then -1 else ct_i (A 12 k))) : wpX_size post (ct_lf A) (ct_i k) := by
  unfold wpX_size
  refine ct_sees h0 h3 hb ?_
  by_cases e : A 11 k = -2
  · rw [if_pos e] at hp ⊢
    exact br_t rfl hp
  · rw [if_neg e] at hp ⊢
    refine br_f (by decide) ⟨ct_in h0 (by omega) (by decide), ?_⟩
    simp (disch := omega) only [ct_l0, ct_l1, ct_l2, ct_l3, ct_l4, ct_l5, ct_l6, ct_l24, ct_l25, ct_l99, ct_l100, ct_neg, ct_add, ct_sub, ct_mul, ct_inT, ct_rd, ct_rc, ct_wr, ct_wc, ct_wci, ct_bI, ct_nb, ct_nbi, ct_tb, ct_le, ct_lt, ct_eq, ct_rc0, ct_rc1, ct_rc3, ct_rd0, ct_rd1, ct_wc3, ct_wc3i, ct_wc0, ct_wc0i, ct_wr0, true_and, forall_eq]
    exact hp
theorem ct_seen {post : Int32 → Prop} {A : Nat → Int → Int} {k : Int} (h0 : 0 ≤ k) (h3 : k ≤ 2) (hb : -128 ≤ A 11 k ∧ A 11 k < 128) (hp : post (if A 11 k = -2 then -1 else ct_i (A 13 k))) : wpX_seen post (ct_lf A) (ct_i k) := by
  unfold wpX_seen ct_lf
  dsimp only
  simp (disch := omega) only [ct_l0, ct_l1, ct_l2, ct_l3, ct_l4, ct_l5, ct_l6, ct_l24, ct_l25, ct_l99, ct_l100, ct_neg, ct_add, ct_sub, ct_mul, ct_inT, ct_rd, ct_rc, ct_wr, ct_wc, ct_wci, ct_bI, ct_nb, ct_nbi, ct_tb, ct_le, ct_lt, ct_eq, ct_rc0, ct_rc1, ct_rc3, ct_rd0, ct_rd1, ct_wc3, ct_wc3i, ct_wc0, ct_wc0i, ct_wr0, true_and, forall_eq]
  refine br_f (by omega) (br_f (by omega) (br_c (fun e => ?_) (fun e => ?_)))
  · rw [if_pos e] at hp; exact hp
  · rw [if_neg e] at hp; exact hp
theorem ct_isKey {post : Int32 → Prop} {A : Nat → Int → Int} {k : Int} (h0 : 0 ≤ k) (h3 : k ≤ 99) (hp : post 1) : wpX_isKey post (ct_lf A) (ct_i k) := by
  unfold wpX_isKey ct_lf
  dsimp only
  simp (disch := omega) only [ct_l0, ct_l1, ct_l2, ct_l3, ct_l4, ct_l5, ct_l6, ct_l24, ct_l25, ct_l99, ct_l100, ct_neg, ct_add, ct_sub, ct_mul, ct_inT, ct_rd, ct_rc, ct_wr, ct_wc, ct_wci, ct_bI, ct_nb, ct_nbi, ct_tb, ct_le, ct_lt, ct_eq, ct_rc0, ct_rc1, ct_rc3, ct_rd0, ct_rd1, ct_wc3, ct_wc3i, ct_wc0, ct_wc0i, ct_wr0, true_and, forall_eq]
  exact br_f (by omega) (br_f (by omega) hp)
theorem ct_isLeaf {post : Int32 → Prop} {A : Nat → Int → Int} {x : Int} (h0 : 0 ≤ x) (h3 : x < 100) (hb : -128 ≤ A 4 (6 * x) ∧ A 4 (6 * x) < 128) (hp : post (if A 4 (6 * x) < 0 then 1 else 0)) : wpX_isLeaf post (ct_lf A) (ct_i x) := by
  unfold wpX_isLeaf ct_lf
  dsimp only
  simp (disch := omega) only [ct_l0, ct_l1, ct_l2, ct_l3, ct_l4, ct_l5, ct_l6, ct_l24, ct_l25, ct_l99, ct_l100, ct_neg, ct_add, ct_sub, ct_mul, ct_inT, ct_rd, ct_rc, ct_wr, ct_wc, ct_wci, ct_bI, ct_nb, ct_nbi, ct_tb, ct_le, ct_lt, ct_eq, ct_rc0, ct_rc1, ct_rc3, ct_rd0, ct_rd1, ct_wc3, ct_wc3i, ct_wc0, ct_wc0i, ct_wr0, true_and, forall_eq]
  refine br_c (fun e => ?_) (fun e => ?_)
  · rw [if_neg (by omega)] at hp; exact hp
  · rw [if_pos (by omega)] at hp; exact hp
/-- the way made longer by one -/
def ct_psh (A : Nat → Int → Int) (x i : Int) : Nat → Int → Int := ct_st (ct_st (ct_st A 0 (ct_up (A 0) 0 (A 0 0 + 1))) 14 (ct_up (A 14) (A 0 0) x)) 15 (ct_up (A 15) (A 0 0) i)
theorem ct_pushWay {post : St1 → Prop} {A : Nat → Int → Int} {x i : Int} (h0 : 0 ≤ A 0 0) (h8 : A 0 0 < 8) (hp : post (ct_lf (ct_psh A x i))) : wpX_pushWay post (ct_lf A) (ct_i x) (ct_i i) := by
  unfold wpX_pushWay ct_lf
  dsimp only
  simp (disch := omega) only [ct_l0, ct_l1, ct_l2, ct_l3, ct_l4, ct_l5, ct_l6, ct_l24, ct_l25, ct_l99, ct_l100, ct_neg, ct_add, ct_sub, ct_mul, ct_inT, ct_rd, ct_rc, ct_wr, ct_wc, ct_wci, ct_bI, ct_nb, ct_nbi, ct_tb, ct_le, ct_lt, ct_eq, ct_rc0, ct_rc1, ct_rc3, ct_rd0, ct_rd1, ct_wc3, ct_wc3i, ct_wc0, ct_wc0i, ct_wr0, true_and, forall_eq]
  exact hp
def ct_ld (A : Nat → Int → Int) : Nat → Int → Int := ct_st (ct_st (ct_st A 5 (ct_fill (A 5) 100 0)) 11 (ct_up (A 11) 3 (A 7 (ct_vm A)))) 12 (ct_up (A 12) 3 (A 8 (ct_vm A)))
theorem ct_loadWriter {post : St1 → Prop} {A : Nat → Int → Int} (h : ct_ok A) (hp : post (ct_lf (ct_ld A))) : wpX_loadWriter post (ct_lf A) := by
  have := ct_vm01 A
  unfold wpX_loadWriter ct_lf
  dsimp only
  refine ct_validMeta h ?_
  refine ct_settle ?_
  unfold ct_lf
  dsimp only
  simp (disch := omega) only [ct_l0, ct_l1, ct_l2, ct_l3, ct_l4, ct_l5, ct_l6, ct_l24, ct_l25, ct_l99, ct_l100, ct_neg, ct_add, ct_sub, ct_mul, ct_inT, ct_rd, ct_rc, ct_wr, ct_wc, ct_wci, ct_bI, ct_nb, ct_nbi, ct_tb, ct_le, ct_lt, ct_eq, ct_rc0, ct_rc1, ct_rc3, ct_rd0, ct_rd1, ct_wc3, ct_wc3i, ct_wc0, ct_wc0i, ct_wr0, true_and, forall_eq]
  exact hp
theorem ct_abort {post : Int32 → St1 → Prop} {A : Nat → Int → Int} (h : ct_ok A) (hp : post (ct_i (A 9 (ct_vm A))) (ct_lf (ct_ld A))) : wpX_abort post (ct_lf A) := by
  unfold wpX_abort
  refine ct_loadWriter h ?_
  exact ct_number (A := ct_ld A) h hp
def ct_wm (A : Nat → Int → Int) (w : Int) : Nat → Int → Int := ct_st (ct_st (ct_st (ct_st A 10 (ct_up (A 10) (1 - ct_vm A) w)) 7 (ct_up (A 7) (1 - ct_vm A) (A 11 3))) 8 (ct_up (A 8) (1 - ct_vm A) (A 12 3))) 9 (ct_up (A 9) (1 - ct_vm A) (A 9 (ct_vm A) + 1))
theorem ct_writeMeta {post : St1 → Prop} {A : Nat → Int → Int} {w : Int} (hw : w = 0 ∨ w = 1) (h : ct_ok A) (hp : post (ct_lf (ct_wm A w))) : wpX_writeMeta post (ct_lf A) (ct_i w) := by
  have := ct_vm01 A
  have e : vp_nar .boolean (ct_i w) = ct_i w := by rcases hw with e | e <;> subst e <;> rfl
  unfold wpX_writeMeta ct_lf
  dsimp only
  refine ct_validMeta h ?_
  simp (disch := omega) only [ct_l0, ct_l1, ct_l2, ct_l3, ct_l4, ct_l5, ct_l6, ct_l24, ct_l25, ct_l99, ct_l100, ct_neg, ct_add, ct_sub, ct_mul, ct_inT, ct_rd, ct_rc, ct_wr, ct_wc, ct_wci, ct_bI, ct_nb, ct_nbi, ct_tb, ct_le, ct_lt, ct_eq, ct_rc0, ct_rc1, ct_rc3, ct_rd0, ct_rd1, ct_wc3, ct_wc3i, ct_wc0, ct_wc0i, ct_wr0, true_and, forall_eq, e]
  exact hp
theorem ct_wm_ok {A : Nat → Int → Int} {w : Int} (hw : w = 0 ∨ w = 1) (h : ct_ok A) (h9 : A 9 (ct_vm A) < 999) : ct_ok (ct_wm A w) := by
  refine ⟨fun m => ?_, fun m => ?_⟩
  · show 0 ≤ ct_up (A 10) (1 - ct_vm A) w m ∧ ct_up (A 10) (1 - ct_vm A) w m ≤ 1
    unfold ct_up
    have := h.1 m
    split <;> omega
  · show 0 ≤ ct_up (A 9) (1 - ct_vm A) (A 9 (ct_vm A) + 1) m ∧ ct_up (A 9) (1 - ct_vm A) (A 9 (ct_vm A) + 1) m < 1000
    unfold ct_up
    have := h.2 m
    have := h.2 (ct_vm A)
    split <;> omega
def ct_cmt (A : Nat → Int → Int) : Nat → Int → Int := ct_st (ct_wm A 1) 5 (ct_fill (A 5) 100 0)
theorem ct_commit {post : Int32 → St1 → Prop} {A : Nat → Int → Int} (h : ct_ok A) (h9 : A 9 (ct_vm A) < 999) (hp : post (ct_i (ct_wm A 1 9 (ct_vm (ct_wm A 1)))) (ct_lf (ct_cmt A))) : wpX_commit post (ct_lf A) := by
  unfold wpX_commit ct_lf
  dsimp only
  refine ct_writeMeta (Or.inr rfl) h ?_
  refine ct_settle (A := ct_wm A 1) ?_
  exact ct_number (A := ct_cmt A) (ct_wm_ok (Or.inr rfl) h h9) hp
theorem ct_open {post : Int32 → St1 → Prop} {A : Nat → Int → Int} {k : Int} (h0 : 0 ≤ k) (h3 : k ≤ 2) (h : ct_ok A) (hp : post (ct_i (A 9 (ct_vm A))) (ct_lf (ct_st (ct_st (ct_st A 11 (ct_up (A 11) k (A 7 (ct_vm A)))) 12 (ct_up (A 12) k (A 8 (ct_vm A)))) 13 (ct_up (A 13) k (A 9 (ct_vm A)))))) : wpX_open post (ct_lf A) (ct_i k) := by
  have := ct_vm01 A
  unfold wpX_open ct_lf
  dsimp only
  refine br_f ?_ (br_t ?_ ?_)
  · simp (disch := omega) only [ct_l0, ct_l1, ct_l2, ct_l3, ct_l4, ct_l5, ct_l6, ct_l24, ct_l25, ct_l99, ct_l100, ct_neg, ct_add, ct_sub, ct_mul, ct_inT, ct_rd, ct_rc, ct_wr, ct_wc, ct_wci, ct_bI, ct_nb, ct_nbi, ct_tb, ct_le, ct_lt, ct_eq, ct_rc0, ct_rc1, ct_rc3, ct_rd0, ct_rd1, ct_wc3, ct_wc3i, ct_wc0, ct_wc0i, ct_wr0, true_and, forall_eq]; omega
  · simp (disch := omega) only [ct_l0, ct_l1, ct_l2, ct_l3, ct_l4, ct_l5, ct_l6, ct_l24, ct_l25, ct_l99, ct_l100, ct_neg, ct_add, ct_sub, ct_mul, ct_inT, ct_rd, ct_rc, ct_wr, ct_wc, ct_wci, ct_bI, ct_nb, ct_nbi, ct_tb, ct_le, ct_lt, ct_eq, ct_rc0, ct_rc1, ct_rc3, ct_rd0, ct_rd1, ct_wc3, ct_wc3i, ct_wc0, ct_wc0i, ct_wr0, true_and, forall_eq]; omega
  · refine ct_validMeta h ?_
    simp (disch := omega) only [ct_l0, ct_l1, ct_l2, ct_l3, ct_l4, ct_l5, ct_l6, ct_l24, ct_l25, ct_l99, ct_l100, ct_neg, ct_add, ct_sub, ct_mul, ct_inT, ct_rd, ct_rc, ct_wr, ct_wc, ct_wci, ct_bI, ct_nb, ct_nbi, ct_tb, ct_le, ct_lt, ct_eq, ct_rc0, ct_rc1, ct_rc3, ct_rd0, ct_rd1, ct_wc3, ct_wc3i, ct_wc0, ct_wc0i, ct_wr0, true_and, forall_eq, ct_us]
    exact hp
theorem ct_close {post : Int32 → St1 → Prop} {A : Nat → Int → Int} {k : Int} (h0 : 0 ≤ k) (h3 : k ≤ 2) (hb : -128 ≤ A 11 k ∧ A 11 k < 128) (hp : post (if A 11 k = -2 then 0 else 1) (ct_lf (ct_st A 11 (ct_up (A 11) k (-2))))) : wpX_close post (ct_lf A) (ct_i k) := by
  unfold wpX_close wX_close_27 ct_lf
  dsimp only
  simp (disch := omega) only [ct_l0, ct_l1, ct_l2, ct_l3, ct_l4, ct_l5, ct_l6, ct_l24, ct_l25, ct_l99, ct_l100, ct_neg, ct_add, ct_sub, ct_mul, ct_inT, ct_rd, ct_rc, ct_wr, ct_wc, ct_wci, ct_bI, ct_nb, ct_nbi, ct_tb, ct_le, ct_lt, ct_eq, ct_rc0, ct_rc1, ct_rc3, ct_rd0, ct_rd1, ct_wc3, ct_wc3i, ct_wc0, ct_wc0i, ct_wr0, true_and, forall_eq]
  refine br_f (by omega) (br_t (by omega) (br_c (fun e => ?_) (fun e => ?_)))
  · rw [if_pos e] at hp; exact hp
  · rw [if_neg e] at hp; exact hp
def ct_cls (A : Nat → Int → Int) : Nat → Int → Int := ct_ld (ct_st A 11 (ct_fill (A 11) 3 (-2)))
theorem ct_crash_31 {post : Int32 → St1 → Prop} {A : Nat → Int → Int} (h : ct_ok A) (hp : post (ct_i (A 9 (ct_vm A))) (ct_lf (ct_cls A))) : ∀ (m : Nat) (i : Int), 0 ≤ i → i + m = 3 → wX_crash_31 post (ct_i (A 0 0)) (m + 1) (ct_i i) (ct_c ((ct_st A 11 (ct_fill (A 11) i (-2))) 1)) (ct_c ((ct_st A 11 (ct_fill (A 11) i (-2))) 2)) (ct_a ((ct_st A 11 (ct_fill (A 11) i (-2))) 3)) (ct_c ((ct_st A 11 (ct_fill (A 11) i (-2))) 4)) (ct_a ((ct_st A 11 (ct_fill (A 11) i (-2))) 5)) (ct_a ((ct_st A 11 (ct_fill (A 11) i (-2))) 6)) (ct_c ((ct_st A 11 (ct_fill (A 11) i (-2))) 7)) (ct_c ((ct_st A 11 (ct_fill (A 11) i (-2))) 8)) (ct_a ((ct_st A 11 (ct_fill (A 11) i (-2))) 9)) (ct_a ((ct_st A 11 (ct_fill (A 11) i (-2))) 10)) (ct_c ((ct_st A 11 (ct_fill (A 11) i (-2))) 11)) (ct_c ((ct_st A 11 (ct_fill (A 11) i (-2))) 12)) (ct_a ((ct_st A 11 (ct_fill (A 11) i (-2))) 13)) (ct_c ((ct_st A 11 (ct_fill (A 11) i (-2))) 14)) (ct_c ((ct_st A 11 (ct_fill (A 11) i (-2))) 15)) (ct_c ((ct_st A 11 (ct_fill (A 11) i (-2))) 16)) := by
  intro m
  induction m with
  | zero =>
    intro i h0 hi
    unfold wX_crash_31
    have e : i = 3 := by omega
    subst e
    refine br_t ?_ ?_
    · simp (disch := omega) only [ct_l0, ct_l1, ct_l2, ct_l3, ct_l4, ct_l5, ct_l6, ct_l24, ct_l25, ct_l99, ct_l100, ct_neg, ct_add, ct_sub, ct_mul, ct_inT, ct_rd, ct_rc, ct_wr, ct_wc, ct_wci, ct_bI, ct_nb, ct_nbi, ct_tb, ct_le, ct_lt, ct_eq, ct_rc0, ct_rc1, ct_rc3, ct_rd0, ct_rd1, ct_wc3, ct_wc3i, ct_wc0, ct_wc0i, ct_wr0, true_and, forall_eq]; omega
    · refine ct_loadWriter (A := ct_st A 11 (ct_fill (A 11) 3 (-2))) h ?_
      exact ct_number (A := ct_cls A) h hp
  | succ m ih =>
    intro i h0 hi
    unfold wX_crash_31
    refine br_f ?_ ?_
    · simp (disch := omega) only [ct_l0, ct_l1, ct_l2, ct_l3, ct_l4, ct_l5, ct_l6, ct_l24, ct_l25, ct_l99, ct_l100, ct_neg, ct_add, ct_sub, ct_mul, ct_inT, ct_rd, ct_rc, ct_wr, ct_wc, ct_wci, ct_bI, ct_nb, ct_nbi, ct_tb, ct_le, ct_lt, ct_eq, ct_rc0, ct_rc1, ct_rc3, ct_rd0, ct_rd1, ct_wc3, ct_wc3i, ct_wc0, ct_wc0i, ct_wr0, true_and, forall_eq]; omega
    · simp (disch := omega) only [ct_l0, ct_l1, ct_l2, ct_l3, ct_l4, ct_l5, ct_l6, ct_l24, ct_l25, ct_l99, ct_l100, ct_neg, ct_add, ct_sub, ct_mul, ct_inT, ct_rd, ct_rc, ct_wr, ct_wc, ct_wci, ct_bI, ct_nb, ct_nbi, ct_tb, ct_le, ct_lt, ct_eq, ct_rc0, ct_rc1, ct_rc3, ct_rd0, ct_rd1, ct_wc3, ct_wc3i, ct_wc0, ct_wc0i, ct_wr0, true_and, forall_eq]
      have := ih (i + 1) (by omega) (by omega)
      rw [← ct_fill_up h0] at this
      exact this
theorem ct_crash_31e {post : Int32 → St1 → Prop} {A : Nat → Int → Int} (h : ct_ok A) (hp : post (ct_i (A 9 (ct_vm A))) (ct_lf (ct_cls A))) : ∃ n, wX_crash_31 post (ct_i (A 0 0)) n 0 (ct_c (A 1)) (ct_c (A 2)) (ct_a (A 3)) (ct_c (A 4)) (ct_a (A 5)) (ct_a (A 6)) (ct_c (A 7)) (ct_c (A 8)) (ct_a (A 9)) (ct_a (A 10)) (ct_c (A 11)) (ct_c (A 12)) (ct_a (A 13)) (ct_c (A 14)) (ct_c (A 15)) (ct_c (A 16)) := by
  refine ⟨4, ?_⟩
  have := ct_crash_31 h hp 3 0 (by omega) (by omega)
  rw [ct_fill_0] at this
  exact this
theorem ct_crash0 {post : Int32 → St1 → Prop} {A : Nat → Int → Int} (h : ct_ok A) (hp : post (ct_i (A 9 (ct_vm A))) (ct_lf (ct_cls A))) : wpX_crash post (ct_lf A) 0 := by
  unfold wpX_crash ct_lf
  dsimp only
  exact br_f (by decide) (br_t (by decide) (br_t (by decide) (ct_crash_31e h hp)))
theorem ct_crash_26 {post : Int32 → St1 → Prop} {A : Nat → Int → Int} {w : Int} (hw : w = 0 ∨ w = 1) (h : ct_ok A) (h9 : A 9 (ct_vm A) < 999) (hp : post (ct_i (ct_wm A w 9 (ct_vm (ct_wm A w)))) (ct_lf (ct_cls (ct_wm A w)))) : wX_crash_26 post (ct_i w) (ct_i (A 0 0)) (ct_c (A 1)) (ct_c (A 2)) (ct_a (A 3)) (ct_c (A 4)) (ct_a (A 5)) (ct_a (A 6)) (ct_c (A 7)) (ct_c (A 8)) (ct_a (A 9)) (ct_a (A 10)) (ct_c (A 11)) (ct_c (A 12)) (ct_a (A 13)) (ct_c (A 14)) (ct_c (A 15)) (ct_c (A 16)) := by
  unfold wX_crash_26
  refine ct_writeMeta hw h ?_
  exact ct_crash_31e (A := ct_wm A w) (ct_wm_ok hw h h9) hp
theorem ct_crash1 {post : Int32 → St1 → Prop} {A : Nat → Int → Int} (h : ct_ok A) (h9 : A 9 (ct_vm A) < 999) (hp : post (ct_i (ct_wm A 1 9 (ct_vm (ct_wm A 1)))) (ct_lf (ct_cls (ct_wm A 1)))) : wpX_crash post (ct_lf A) 1 := by
  unfold wpX_crash ct_lf
  dsimp only
  exact br_f (by decide) (br_t (by decide) (br_f (by decide) (br_t rfl (ct_crash_26 (Or.inr rfl) h h9 hp))))
theorem ct_crash2 {post : Int32 → St1 → Prop} {A : Nat → Int → Int} (h : ct_ok A) (h9 : A 9 (ct_vm A) < 999) (hp : post (ct_i (ct_wm A 0 9 (ct_vm (ct_wm A 0)))) (ct_lf (ct_cls (ct_wm A 0)))) : wpX_crash post (ct_lf A) 2 := by
  unfold wpX_crash ct_lf
  dsimp only
  exact br_f (by decide) (br_t (by decide) (br_f (by decide) (br_f (by decide) (ct_crash_26 (Or.inl rfl) h h9 hp))))
/-- the state that new makes -/
def ct_A0 : Nat → Int → Int := ct_ld (ct_st (ct_st (ct_st (fun _ _ => 0) 10 (ct_up (fun _ => 0) 0 1)) 7 (ct_up (fun _ => 0) 0 (-1))) 11 (ct_fill (fun _ => 0) 4 (-2)))
def ct_A1 (i : Int) : Nat → Int → Int := ct_st (ct_st (ct_st (fun _ _ => 0) 10 (ct_up (fun _ => 0) 0 1)) 7 (ct_up (fun _ => 0) 0 (-1))) 11 (ct_fill (fun _ => 0) i (-2))
theorem ct_A1_ok (i : Int) : ct_ok (ct_A1 i) := by
  refine ⟨fun m => ?_, fun m => ?_⟩
  · show 0 ≤ ct_up (fun _ => 0) 0 1 m ∧ ct_up (fun _ => 0) 0 1 m ≤ 1
    unfold ct_up
    by_cases e : m = 0
    · rw [if_pos e]; omega
    · rw [if_neg e]; show (0 : Int) ≤ 0 ∧ (0 : Int) ≤ 1; decide
  · show (0 : Int) ≤ 0 ∧ (0 : Int) < 1000
    omega
theorem ct_init_144 {post : St1 → Prop} {mc ms kc ks : Nat} (hp : post (ct_lf ct_A0)) : ∀ (m : Nat) (i : Int), 0 ≤ i → i + m = 4 → wX_init_144 post mc ms kc ks 0 (m + 1) (ct_i i) (ct_c ((ct_A1 i) 1)) (ct_c ((ct_A1 i) 2)) (ct_a ((ct_A1 i) 3)) (ct_c ((ct_A1 i) 4)) (ct_a ((ct_A1 i) 5)) (ct_a ((ct_A1 i) 6)) (ct_c ((ct_A1 i) 7)) (ct_c ((ct_A1 i) 8)) (ct_a ((ct_A1 i) 9)) (ct_a ((ct_A1 i) 10)) (ct_c ((ct_A1 i) 11)) (ct_c ((ct_A1 i) 12)) (ct_a ((ct_A1 i) 13)) (ct_c ((ct_A1 i) 14)) (ct_c ((ct_A1 i) 15)) (ct_c ((ct_A1 i) 16)) := by
  intro m
  induction m with
  | zero =>
    intro i h0 hi
    unfold wX_init_144
    have e : i = 4 := by omega
    subst e
    refine br_t ?_ ?_
    · simp (disch := omega) only [ct_l0, ct_l1, ct_l2, ct_l3, ct_l4, ct_l5, ct_l6, ct_l24, ct_l25, ct_l99, ct_l100, ct_neg, ct_add, ct_sub, ct_mul, ct_inT, ct_rd, ct_rc, ct_wr, ct_wc, ct_wci, ct_bI, ct_nb, ct_nbi, ct_tb, ct_le, ct_lt, ct_eq, ct_rc0, ct_rc1, ct_rc3, ct_rd0, ct_rd1, ct_wc3, ct_wc3i, ct_wc0, ct_wc0i, ct_wr0, true_and, forall_eq]; omega
    · exact ct_loadWriter (A := ct_A1 4) (ct_A1_ok 4) hp
  | succ m ih =>
    intro i h0 hi
    unfold wX_init_144
    refine br_f ?_ ?_
    · simp (disch := omega) only [ct_l0, ct_l1, ct_l2, ct_l3, ct_l4, ct_l5, ct_l6, ct_l24, ct_l25, ct_l99, ct_l100, ct_neg, ct_add, ct_sub, ct_mul, ct_inT, ct_rd, ct_rc, ct_wr, ct_wc, ct_wci, ct_bI, ct_nb, ct_nbi, ct_tb, ct_le, ct_lt, ct_eq, ct_rc0, ct_rc1, ct_rc3, ct_rd0, ct_rd1, ct_wc3, ct_wc3i, ct_wc0, ct_wc0i, ct_wr0, true_and, forall_eq]; omega
    · have := ih (i + 1) (by omega) (by omega)
      refine ⟨ct_in h0 (by omega) (by decide), nm_r (ct_wci (v := -2) h0 (by omega) (by decide) (by decide)) ?_⟩
      refine nm_r (show ct_i i + 1 = ct_i (i + 1) from ct_add i 1) ?_
      show wX_init_144 post mc ms kc ks 0 (m + 1) (ct_i (i + 1)) (ct_c ((ct_st (ct_A1 i) 11 (ct_up (ct_fill (fun _ => 0) i (-2)) i (-2))) 1)) (ct_c ((ct_st (ct_A1 i) 11 (ct_up (ct_fill (fun _ => 0) i (-2)) i (-2))) 2)) (ct_a ((ct_st (ct_A1 i) 11 (ct_up (ct_fill (fun _ => 0) i (-2)) i (-2))) 3)) (ct_c ((ct_st (ct_A1 i) 11 (ct_up (ct_fill (fun _ => 0) i (-2)) i (-2))) 4)) (ct_a ((ct_st (ct_A1 i) 11 (ct_up (ct_fill (fun _ => 0) i (-2)) i (-2))) 5)) (ct_a ((ct_st (ct_A1 i) 11 (ct_up (ct_fill (fun _ => 0) i (-2)) i (-2))) 6)) (ct_c ((ct_st (ct_A1 i) 11 (ct_up (ct_fill (fun _ => 0) i (-2)) i (-2))) 7)) (ct_c ((ct_st (ct_A1 i) 11 (ct_up (ct_fill (fun _ => 0) i (-2)) i (-2))) 8)) (ct_a ((ct_st (ct_A1 i) 11 (ct_up (ct_fill (fun _ => 0) i (-2)) i (-2))) 9)) (ct_a ((ct_st (ct_A1 i) 11 (ct_up (ct_fill (fun _ => 0) i (-2)) i (-2))) 10)) (ct_c ((ct_st (ct_A1 i) 11 (ct_up (ct_fill (fun _ => 0) i (-2)) i (-2))) 11)) (ct_c ((ct_st (ct_A1 i) 11 (ct_up (ct_fill (fun _ => 0) i (-2)) i (-2))) 12)) (ct_a ((ct_st (ct_A1 i) 11 (ct_up (ct_fill (fun _ => 0) i (-2)) i (-2))) 13)) (ct_c ((ct_st (ct_A1 i) 11 (ct_up (ct_fill (fun _ => 0) i (-2)) i (-2))) 14)) (ct_c ((ct_st (ct_A1 i) 11 (ct_up (ct_fill (fun _ => 0) i (-2)) i (-2))) 15)) (ct_c ((ct_st (ct_A1 i) 11 (ct_up (ct_fill (fun _ => 0) i (-2)) i (-2))) 16))
      rw [ct_fill_up h0]
      exact this
theorem ct_c0 : (fun _ : Nat => (0 : Int32)) = ct_c (fun _ => 0) := rfl
theorem ct_a0 : (fun _ : Nat => (0 : Int32)) = ct_a (fun _ => 0) := rfl
theorem ct_init {post : St1 → Prop} (hp : post (ct_lf ct_A0)) : wpX_init post 16 2036 0 := by
  unfold wpX_init
  refine ⟨by decide, by decide, by decide, by decide, by decide, by decide, by decide, by decide, by decide, by decide, by decide, by decide, by decide, by decide, by decide, by decide, by decide, by decide, by decide, by decide, by decide, by decide, by decide, by decide, by decide, by decide, by decide, by decide, by decide, by decide, by decide, by decide, ?_⟩
  refine nm_r (show upd (fun _ => 0) 0 1 = ct_a (ct_up (fun _ => 0) 0 1) from ct_wr0 (fun _ => 0) 1) ?_
  refine nm_r (show upd (fun _ => 0) 0 (-1) = ct_c (ct_up (fun _ => 0) 0 (-1)) from by rw [ct_c0]; exact ct_wc0i (f := fun _ => 0) (v := -1) (by decide) (by decide)) ?_
  refine ⟨5, ?_⟩
  have := ct_init_144 (mc := 16) (ms := 2036) (kc := 16) (ks := 2036) hp 4 0 (by omega) (by omega)
  unfold ct_A1 at this
  rw [ct_fill_0] at this
  exact this
end
section
/-! ===== 05: places opened, closed, filled ===== -/
theorem ct_tbb (v : Int) : (ct_b v).toInt8.toInt32 = ct_b v := by
  have h := ct_nb v
  rw [vp_nar_byte] at h
  exact h
theorem ct_sR_up {f : Int → Int} {lo hi : Int} (h : lo ≤ hi) : ct_up (ct_sR f lo hi) lo (ct_sR f lo hi (lo - 1)) = ct_sR f (lo - 1) hi := by
  funext j
  unfold ct_up ct_sR
  by_cases e : j = lo
  · rw [if_pos e, if_neg (by omega), if_pos (by omega), e]
  · rw [if_neg e]
    by_cases e2 : lo < j ∧ j ≤ hi
    · rw [if_pos e2, if_pos (by omega)]
    · rw [if_neg e2, if_neg (by omega)]
theorem ct_sR_0 {f : Int → Int} {hi : Int} : ct_sR f hi hi = f := by
  funext j
  unfold ct_sR
  rw [if_neg (by omega)]
theorem ct_sL_up {f : Int → Int} {lo k : Int} (h : lo ≤ k) : ct_up (ct_sL f lo k) k (ct_sL f lo k (k + 1)) = ct_sL f lo (k + 1) := by
  funext j
  unfold ct_up ct_sL
  by_cases e : j = k
  · rw [if_pos e, if_neg (by omega), if_pos (by omega), e]
  · rw [if_neg e]
    by_cases e2 : lo ≤ j ∧ j < k
    · rw [if_pos e2, if_pos (by omega)]
    · rw [if_neg e2, if_neg (by omega)]
theorem ct_sL_0 {f : Int → Int} {lo : Int} : ct_sL f lo lo = f := by
  funext j
  unfold ct_sL
  rw [if_neg (by omega)]
theorem ct_cp_up {f : Int → Int} {d s i : Int} (h : 0 ≤ i) (hs : s + i < d ∨ d ≤ s) : ct_up (ct_cp f d s i) (d + i) (ct_cp f d s i (s + i)) = ct_cp f d s (i + 1) := by
  funext j
  unfold ct_up ct_cp
  by_cases e : j = d + i
  · rw [if_pos e, if_neg (by omega), if_pos (by omega), e]
    congr 1
    omega
  · rw [if_neg e]
    by_cases e2 : d ≤ j ∧ j < d + i
    · rw [if_pos e2, if_pos (by omega)]
    · rw [if_neg e2, if_neg (by omega)]
theorem ct_cp_0 {f : Int → Int} {d s : Int} : ct_cp f d s 0 = f := by
  funext j
  unfold ct_cp
  rw [if_neg (by omega)]
/-- a pair put at place i of page x -/
def ct_pat (A : Nat → Int → Int) (x i k v : Int) : Nat → Int → Int := ct_st (ct_st A 2 (ct_up (A 2) (5 * x + i) k)) 3 (ct_up (A 3) (5 * x + i) v)
theorem ct_putAt {post : St1 → Prop} {A : Nat → Int → Int} {x i : Int} {p2 p3 : Int32} (k v : Int) (h0 : 0 ≤ 5 * x + i) (h1 : 5 * x + i < 500) (hk : p2.toInt8.toInt32 = ct_b k) (hv : p3 = ct_i v) (hp : post (ct_lf (ct_pat A x i k v))) : wpX_putAt post (ct_lf A) (ct_i x) (ct_i i) p2 p3 := by
  subst hv
  unfold wpX_putAt ct_lf
  dsimp only
  rw [hk]
  simp (disch := omega) only [ct_l0, ct_l1, ct_l2, ct_l3, ct_l4, ct_l5, ct_l6, ct_l24, ct_l25, ct_l99, ct_l100, ct_neg, ct_add, ct_sub, ct_mul, ct_inT, ct_rd, ct_rc, ct_wr, ct_wc, ct_wci, ct_bI, ct_nb, ct_nbi, ct_tb, ct_le, ct_lt, ct_eq, ct_rc0, ct_rc1, ct_rc3, ct_rd0, ct_rd1, ct_wc3, ct_wc3i, ct_wc0, ct_wc0i, ct_wr0, true_and, forall_eq]
  exact hp
/-- a place opened at i of page x -/
def ct_opn (A : Nat → Int → Int) (x i : Int) : Nat → Int → Int := ct_st (ct_st (ct_st A 2 (ct_sR (A 2) (5 * x + i) (5 * x + A 1 x))) 3 (ct_sR (A 3) (5 * x + i) (5 * x + A 1 x))) 1 (ct_up (A 1) x (A 1 x + 1))
theorem ct_openPlace_7 {post : St1 → Prop} {A : Nat → Int → Int} {x i : Int} (h0 : 0 ≤ x) (h1 : x < 100) (hi : 0 ≤ i) (hn : A 1 x ≤ 4) (hp : post (ct_lf (ct_opn A x i))) : ∀ (m : Nat) (k : Int), k = i + m → k ≤ A 1 x → wX_openPlace_7 post (ct_i x) (ct_i i) (ct_i (A 0 0)) (m + 1) (ct_i k) (ct_c ((ct_st (ct_st A 2 (ct_sR (A 2) (5 * x + k) (5 * x + A 1 x))) 3 (ct_sR (A 3) (5 * x + k) (5 * x + A 1 x))) 1)) (ct_c ((ct_st (ct_st A 2 (ct_sR (A 2) (5 * x + k) (5 * x + A 1 x))) 3 (ct_sR (A 3) (5 * x + k) (5 * x + A 1 x))) 2)) (ct_a ((ct_st (ct_st A 2 (ct_sR (A 2) (5 * x + k) (5 * x + A 1 x))) 3 (ct_sR (A 3) (5 * x + k) (5 * x + A 1 x))) 3)) (ct_c ((ct_st (ct_st A 2 (ct_sR (A 2) (5 * x + k) (5 * x + A 1 x))) 3 (ct_sR (A 3) (5 * x + k) (5 * x + A 1 x))) 4)) (ct_a ((ct_st (ct_st A 2 (ct_sR (A 2) (5 * x + k) (5 * x + A 1 x))) 3 (ct_sR (A 3) (5 * x + k) (5 * x + A 1 x))) 5)) (ct_a ((ct_st (ct_st A 2 (ct_sR (A 2) (5 * x + k) (5 * x + A 1 x))) 3 (ct_sR (A 3) (5 * x + k) (5 * x + A 1 x))) 6)) (ct_c ((ct_st (ct_st A 2 (ct_sR (A 2) (5 * x + k) (5 * x + A 1 x))) 3 (ct_sR (A 3) (5 * x + k) (5 * x + A 1 x))) 7)) (ct_c ((ct_st (ct_st A 2 (ct_sR (A 2) (5 * x + k) (5 * x + A 1 x))) 3 (ct_sR (A 3) (5 * x + k) (5 * x + A 1 x))) 8)) (ct_a ((ct_st (ct_st A 2 (ct_sR (A 2) (5 * x + k) (5 * x + A 1 x))) 3 (ct_sR (A 3) (5 * x + k) (5 * x + A 1 x))) 9)) (ct_a ((ct_st (ct_st A 2 (ct_sR (A 2) (5 * x + k) (5 * x + A 1 x))) 3 (ct_sR (A 3) (5 * x + k) (5 * x + A 1 x))) 10)) (ct_c ((ct_st (ct_st A 2 (ct_sR (A 2) (5 * x + k) (5 * x + A 1 x))) 3 (ct_sR (A 3) (5 * x + k) (5 * x + A 1 x))) 11)) (ct_c ((ct_st (ct_st A 2 (ct_sR (A 2) (5 * x + k) (5 * x + A 1 x))) 3 (ct_sR (A 3) (5 * x + k) (5 * x + A 1 x))) 12)) (ct_a ((ct_st (ct_st A 2 (ct_sR (A 2) (5 * x + k) (5 * x + A 1 x))) 3 (ct_sR (A 3) (5 * x + k) (5 * x + A 1 x))) 13)) (ct_c ((ct_st (ct_st A 2 (ct_sR (A 2) (5 * x + k) (5 * x + A 1 x))) 3 (ct_sR (A 3) (5 * x + k) (5 * x + A 1 x))) 14)) (ct_c ((ct_st (ct_st A 2 (ct_sR (A 2) (5 * x + k) (5 * x + A 1 x))) 3 (ct_sR (A 3) (5 * x + k) (5 * x + A 1 x))) 15)) (ct_c ((ct_st (ct_st A 2 (ct_sR (A 2) (5 * x + k) (5 * x + A 1 x))) 3 (ct_sR (A 3) (5 * x + k) (5 * x + A 1 x))) 16)) := by
  intro m
  induction m with
  | zero =>
    intro k hk hkn
    have e : k = i := by omega
    subst e
    unfold wX_openPlace_7
    simp (disch := omega) only [ct_l0, ct_l1, ct_l2, ct_l3, ct_l4, ct_l5, ct_l6, ct_l24, ct_l25, ct_l99, ct_l100, ct_neg, ct_add, ct_sub, ct_mul, ct_inT, ct_rd, ct_rc, ct_wr, ct_wc, ct_wci, ct_bI, ct_nb, ct_nbi, ct_tb, ct_le, ct_lt, ct_eq, ct_rc0, ct_rc1, ct_rc3, ct_rd0, ct_rd1, ct_wc3, ct_wc3i, ct_wc0, ct_wc0i, ct_wr0, true_and, forall_eq, ct_st]
    refine br_t (by omega) ?_
    have hb := ct_bI (z := A 1 x) (by omega) (by omega)
    show post _
    simp (disch := omega) only [cond, Nat.beq, hb, ct_l0, ct_l1, ct_l2, ct_l3, ct_l4, ct_l5, ct_l6, ct_l24, ct_l25, ct_l99, ct_l100, ct_neg, ct_add, ct_sub, ct_mul, ct_inT, ct_rd, ct_rc, ct_wr, ct_wc, ct_wci, ct_bI, ct_nb, ct_nbi, ct_tb, ct_le, ct_lt, ct_eq, ct_rc0, ct_rc1, ct_rc3, ct_rd0, ct_rd1, ct_wc3, ct_wc3i, ct_wc0, ct_wc0i, ct_wr0, true_and, forall_eq]
    exact hp
  | succ m ih =>
    intro k hk hkn
    unfold wX_openPlace_7
    refine br_f ?_ ?_
    · simp (disch := omega) only [ct_l0, ct_l1, ct_l2, ct_l3, ct_l4, ct_l5, ct_l6, ct_l24, ct_l25, ct_l99, ct_l100, ct_neg, ct_add, ct_sub, ct_mul, ct_inT, ct_rd, ct_rc, ct_wr, ct_wc, ct_wci, ct_bI, ct_nb, ct_nbi, ct_tb, ct_le, ct_lt, ct_eq, ct_rc0, ct_rc1, ct_rc3, ct_rd0, ct_rd1, ct_wc3, ct_wc3i, ct_wc0, ct_wc0i, ct_wr0, true_and, forall_eq]; omega
    · simp (disch := omega) only [ct_l0, ct_l1, ct_l2, ct_l3, ct_l4, ct_l5, ct_l6, ct_l24, ct_l25, ct_l99, ct_l100, ct_neg, ct_add, ct_sub, ct_mul, ct_inT, ct_rd, ct_rc, ct_wr, ct_wc, ct_wci, ct_bI, ct_nb, ct_nbi, ct_tb, ct_le, ct_lt, ct_eq, ct_rc0, ct_rc1, ct_rc3, ct_rd0, ct_rd1, ct_wc3, ct_wc3i, ct_wc0, ct_wc0i, ct_wr0, true_and, forall_eq]
      have := ih (k - 1) (by omega) (by omega)
      rw [show 5 * x + (k - 1) = 5 * x + k - 1 by omega, ← ct_sR_up (by omega), ← ct_sR_up (by omega)] at this
      exact this
theorem ct_openPlace {post : St1 → Prop} {A : Nat → Int → Int} {x i : Int} (h0 : 0 ≤ x) (h1 : x < 100) (hi : 0 ≤ i) (hin : i ≤ A 1 x) (hn : A 1 x ≤ 4) (hp : post (ct_lf (ct_opn A x i))) : wpX_openPlace post (ct_lf A) (ct_i x) (ct_i i) := by
  unfold wpX_openPlace ct_lf
  dsimp only
  simp (disch := omega) only [ct_l0, ct_l1, ct_l2, ct_l3, ct_l4, ct_l5, ct_l6, ct_l24, ct_l25, ct_l99, ct_l100, ct_neg, ct_add, ct_sub, ct_mul, ct_inT, ct_rd, ct_rc, ct_wr, ct_wc, ct_wci, ct_bI, ct_nb, ct_nbi, ct_tb, ct_le, ct_lt, ct_eq, ct_rc0, ct_rc1, ct_rc3, ct_rd0, ct_rd1, ct_wc3, ct_wc3i, ct_wc0, ct_wc0i, ct_wr0, true_and, forall_eq]
  refine ⟨(A 1 x - i).toNat + 1, ?_⟩
  have := ct_openPlace_7 h0 h1 hi hn hp (A 1 x - i).toNat (A 1 x) (by omega) (by omega)
  rw [ct_sR_0, ct_sR_0] at this
  exact this
/-- the place i of page x closed -/
def ct_clp (A : Nat → Int → Int) (x i : Int) : Nat → Int → Int := ct_st (ct_st (ct_st A 1 (ct_up (A 1) x (A 1 x - 1))) 2 (ct_sL (A 2) (5 * x + i) (5 * x + (A 1 x - 1)))) 3 (ct_sL (A 3) (5 * x + i) (5 * x + (A 1 x - 1)))
theorem ct_closePlace_13 {post : St1 → Prop} {A : Nat → Int → Int} {x i n : Int} (h0 : 0 ≤ x) (h1 : x < 100) (hi : 0 ≤ i) (hx : A 1 x = n) (hn : n ≤ 4) (hp : post (ct_lf (ct_st (ct_st A 2 (ct_sL (A 2) (5 * x + i) (5 * x + n))) 3 (ct_sL (A 3) (5 * x + i) (5 * x + n))))) : ∀ (m : Nat) (k : Int), k + m = n → i ≤ k → wX_closePlace_13 post (ct_i x) (ct_i (A 0 0)) (m + 1) (ct_i k) (ct_c ((ct_st (ct_st A 2 (ct_sL (A 2) (5 * x + i) (5 * x + k))) 3 (ct_sL (A 3) (5 * x + i) (5 * x + k))) 1)) (ct_c ((ct_st (ct_st A 2 (ct_sL (A 2) (5 * x + i) (5 * x + k))) 3 (ct_sL (A 3) (5 * x + i) (5 * x + k))) 2)) (ct_a ((ct_st (ct_st A 2 (ct_sL (A 2) (5 * x + i) (5 * x + k))) 3 (ct_sL (A 3) (5 * x + i) (5 * x + k))) 3)) (ct_c ((ct_st (ct_st A 2 (ct_sL (A 2) (5 * x + i) (5 * x + k))) 3 (ct_sL (A 3) (5 * x + i) (5 * x + k))) 4)) (ct_a ((ct_st (ct_st A 2 (ct_sL (A 2) (5 * x + i) (5 * x + k))) 3 (ct_sL (A 3) (5 * x + i) (5 * x + k))) 5)) (ct_a ((ct_st (ct_st A 2 (ct_sL (A 2) (5 * x + i) (5 * x + k))) 3 (ct_sL (A 3) (5 * x + i) (5 * x + k))) 6)) (ct_c ((ct_st (ct_st A 2 (ct_sL (A 2) (5 * x + i) (5 * x + k))) 3 (ct_sL (A 3) (5 * x + i) (5 * x + k))) 7)) (ct_c ((ct_st (ct_st A 2 (ct_sL (A 2) (5 * x + i) (5 * x + k))) 3 (ct_sL (A 3) (5 * x + i) (5 * x + k))) 8)) (ct_a ((ct_st (ct_st A 2 (ct_sL (A 2) (5 * x + i) (5 * x + k))) 3 (ct_sL (A 3) (5 * x + i) (5 * x + k))) 9)) (ct_a ((ct_st (ct_st A 2 (ct_sL (A 2) (5 * x + i) (5 * x + k))) 3 (ct_sL (A 3) (5 * x + i) (5 * x + k))) 10)) (ct_c ((ct_st (ct_st A 2 (ct_sL (A 2) (5 * x + i) (5 * x + k))) 3 (ct_sL (A 3) (5 * x + i) (5 * x + k))) 11)) (ct_c ((ct_st (ct_st A 2 (ct_sL (A 2) (5 * x + i) (5 * x + k))) 3 (ct_sL (A 3) (5 * x + i) (5 * x + k))) 12)) (ct_a ((ct_st (ct_st A 2 (ct_sL (A 2) (5 * x + i) (5 * x + k))) 3 (ct_sL (A 3) (5 * x + i) (5 * x + k))) 13)) (ct_c ((ct_st (ct_st A 2 (ct_sL (A 2) (5 * x + i) (5 * x + k))) 3 (ct_sL (A 3) (5 * x + i) (5 * x + k))) 14)) (ct_c ((ct_st (ct_st A 2 (ct_sL (A 2) (5 * x + i) (5 * x + k))) 3 (ct_sL (A 3) (5 * x + i) (5 * x + k))) 15)) (ct_c ((ct_st (ct_st A 2 (ct_sL (A 2) (5 * x + i) (5 * x + k))) 3 (ct_sL (A 3) (5 * x + i) (5 * x + k))) 16)) := by
  intro m
  have hb : ct_c (A 1) (ct_i x).toNatClampNeg = ct_b (A 1 x) := ct_rc h0 (by omega)
  induction m with
  | zero =>
    intro k hk hik
    have e : k = n := by omega
    subst e
    unfold wX_closePlace_13
    refine ⟨ct_in h0 (by omega) (by decide), br_t ?_ hp⟩
    show ct_c (A 1) (ct_i x).toNatClampNeg ≤ _
    rw [hb, hx]
    simp (disch := omega) only [ct_l0, ct_l1, ct_l2, ct_l3, ct_l4, ct_l5, ct_l6, ct_l24, ct_l25, ct_l99, ct_l100, ct_neg, ct_add, ct_sub, ct_mul, ct_inT, ct_rd, ct_rc, ct_wr, ct_wc, ct_wci, ct_bI, ct_nb, ct_nbi, ct_tb, ct_le, ct_lt, ct_eq, ct_rc0, ct_rc1, ct_rc3, ct_rd0, ct_rd1, ct_wc3, ct_wc3i, ct_wc0, ct_wc0i, ct_wr0, true_and, forall_eq]
    omega
  | succ m ih =>
    intro k hk hik
    unfold wX_closePlace_13
    refine ⟨ct_in h0 (by omega) (by decide), br_f ?_ ?_⟩
    · show ¬ ct_c (A 1) (ct_i x).toNatClampNeg ≤ _
      rw [hb, hx]
      simp (disch := omega) only [ct_l0, ct_l1, ct_l2, ct_l3, ct_l4, ct_l5, ct_l6, ct_l24, ct_l25, ct_l99, ct_l100, ct_neg, ct_add, ct_sub, ct_mul, ct_inT, ct_rd, ct_rc, ct_wr, ct_wc, ct_wci, ct_bI, ct_nb, ct_nbi, ct_tb, ct_le, ct_lt, ct_eq, ct_rc0, ct_rc1, ct_rc3, ct_rd0, ct_rd1, ct_wc3, ct_wc3i, ct_wc0, ct_wc0i, ct_wr0, true_and, forall_eq]
      omega
    · simp (disch := omega) only [ct_l0, ct_l1, ct_l2, ct_l3, ct_l4, ct_l5, ct_l6, ct_l24, ct_l25, ct_l99, ct_l100, ct_neg, ct_add, ct_sub, ct_mul, ct_inT, ct_rd, ct_rc, ct_wr, ct_wc, ct_wci, ct_bI, ct_nb, ct_nbi, ct_tb, ct_le, ct_lt, ct_eq, ct_rc0, ct_rc1, ct_rc3, ct_rd0, ct_rd1, ct_wc3, ct_wc3i, ct_wc0, ct_wc0i, ct_wr0, true_and, forall_eq]
      have := ih (k + 1) (by omega) (by omega)
      rw [show 5 * x + (k + 1) = 5 * x + k + 1 by omega, ← ct_sL_up (by omega), ← ct_sL_up (by omega)] at this
      exact this
theorem ct_closePlace {post : St1 → Prop} {A : Nat → Int → Int} {x i : Int} (h0 : 0 ≤ x) (h1 : x < 100) (hi : 0 ≤ i) (hin : i < A 1 x) (hn : A 1 x ≤ 5) (hp : post (ct_lf (ct_clp A x i))) : wpX_closePlace post (ct_lf A) (ct_i x) (ct_i i) := by
  unfold wpX_closePlace ct_lf
  dsimp only
  simp (disch := omega) only [ct_l0, ct_l1, ct_l2, ct_l3, ct_l4, ct_l5, ct_l6, ct_l24, ct_l25, ct_l99, ct_l100, ct_neg, ct_add, ct_sub, ct_mul, ct_inT, ct_rd, ct_rc, ct_wr, ct_wc, ct_wci, ct_bI, ct_nb, ct_nbi, ct_tb, ct_le, ct_lt, ct_eq, ct_rc0, ct_rc1, ct_rc3, ct_rd0, ct_rd1, ct_wc3, ct_wc3i, ct_wc0, ct_wc0i, ct_wr0, true_and, forall_eq]
  refine ⟨(A 1 x - 1 - i).toNat + 1, ?_⟩
  have := ct_closePlace_13 (A := ct_st A 1 (ct_up (A 1) x (A 1 x - 1))) (x := x) (i := i) (n := A 1 x - 1) h0 h1 hi ct_us (by omega) hp (A 1 x - 1 - i).toNat i (by omega) (by omega)
  rw [ct_sL_0, ct_sL_0] at this
  exact this
end
section
/-! ===== 06: what a page holds, as lists ===== -/
def ct_sg {α : Type} (f : Int → α) : Int → Nat → List α
  | _, 0 => []
  | b, n + 1 => f b :: ct_sg f (b + 1) n
theorem ct_sg_len {α : Type} (f : Int → α) : ∀ (n : Nat) (b : Int), (ct_sg f b n).length = n := by
  intro n
  induction n with
  | zero => intro b; rfl
  | succ n ih => intro b; simp [ct_sg, ih]
theorem ct_sg_app {α : Type} (f : Int → α) (n : Nat) : ∀ (m : Nat) (b : Int), ct_sg f b (m + n) = ct_sg f b m ++ ct_sg f (b + m) n := by
  intro m
  induction m with
  | zero => intro b; simp [ct_sg]
  | succ m ih =>
    intro b
    rw [show m + 1 + n = m + n + 1 by omega]
    simp only [ct_sg, List.cons_append]
    rw [ih, show b + 1 + (m : Int) = b + ((m + 1 : Nat) : Int) by omega]
theorem ct_sg_cg {α : Type} {f g : Int → α} : ∀ (n : Nat) (b c : Int), (∀ j : Int, 0 ≤ j → j < n → f (b + j) = g (c + j)) → ct_sg f b n = ct_sg g c n := by
  intro n
  induction n with
  | zero => intro b c h; rfl
  | succ n ih =>
    intro b c h
    simp only [ct_sg]
    have h0 := h 0 (by omega) (by omega)
    rw [Int.add_zero, Int.add_zero] at h0
    rw [h0, ih (b + 1) (c + 1) (fun j hj hn => by
      have := h (j + 1) (by omega) (by omega)
      rw [show b + 1 + j = b + (j + 1) by omega, show c + 1 + j = c + (j + 1) by omega]
      exact this)]
theorem ct_sg_get {α : Type} {f : Int → α} {e : α} {kb : List α} : ∀ (ka : List α) (n : Nat) (b : Int), ct_sg f b n = ka ++ e :: kb → f (b + ka.length) = e := by
  intro ka
  induction ka with
  | nil =>
    intro n b h
    cases n with
    | zero => simp [ct_sg] at h
    | succ n => simp [ct_sg] at h; simpa using h.1
  | cons a ka ih =>
    intro n b h
    cases n with
    | zero => simp [ct_sg] at h
    | succ n =>
      simp only [ct_sg, List.cons_append, List.cons.injEq] at h
      have := ih n (b + 1) h.2
      rw [show b + 1 + (ka.length : Int) = b + ((a :: ka).length : Int) by simp; omega] at this
      exact this
theorem ct_sg_spl {α : Type} {f : Int → α} {kb : List α} : ∀ (ka : List α) (n : Nat) (b : Int), ct_sg f b n = ka ++ kb → ct_sg f b ka.length = ka ∧ ct_sg f (b + ka.length) kb.length = kb := by
  intro ka n b h
  have hl : n = ka.length + kb.length := by
    have := congrArg List.length h
    rw [ct_sg_len] at this
    simpa using this
  rw [hl, ct_sg_app] at h
  exact List.append_inj h (by rw [ct_sg_len])
def ct_kn (A : Nat → Int → Int) (x : Int) : Nat := min (A 1 x).toNat 5
def ct_nd (A : Nat → Int → Int) : ct_Hp := fun x => (ct_sg (fun j => (A 2 j, A 3 j)) (5 * x) (ct_kn A x), if A 4 (6 * x) < 0 then [] else ct_sg (A 4) (6 * x) (ct_kn A x + 1))
theorem ct_nd_cg {A B : Nat → Int → Int} {x : Int} (h1 : B 1 x = A 1 x) (h2 : ∀ j, 5 * x ≤ j → j < 5 * x + 5 → B 2 j = A 2 j ∧ B 3 j = A 3 j) (h4 : ∀ j, 6 * x ≤ j → j < 6 * x + 6 → B 4 j = A 4 j) : ct_nd B x = ct_nd A x := by
  have hk : ct_kn B x = ct_kn A x := by unfold ct_kn; rw [h1]
  have hl : ct_kn A x ≤ 5 := by unfold ct_kn; omega
  unfold ct_nd
  rw [hk, h4 (6 * x) (by omega) (by omega)]
  have e1 : ct_sg (fun j => (B 2 j, B 3 j)) (5 * x) (ct_kn A x) = ct_sg (fun j => (A 2 j, A 3 j)) (5 * x) (ct_kn A x) := by
    refine ct_sg_cg _ _ _ (fun j hj hn => ?_)
    have := h2 (5 * x + j) (by omega) (by omega)
    simp only [this.1, this.2]
  have e2 : ct_sg (B 4) (6 * x) (ct_kn A x + 1) = ct_sg (A 4) (6 * x) (ct_kn A x + 1) := by
    refine ct_sg_cg _ _ _ (fun j hj hn => ?_)
    exact h4 (6 * x + j) (by omega) (by omega)
  rw [e1, e2]
theorem ct_nd_len {A : Nat → Int → Int} {x : Int} : (ct_nd A x).1.length = ct_kn A x := ct_sg_len _ _ _
/-- the count of a page that holds something -/
theorem ct_nd_kc {A : Nat → Int → Int} {x : Int} (h1 : 1 ≤ (ct_nd A x).1.length) (h2 : (ct_nd A x).1.length ≤ 4) : A 1 x = ((ct_nd A x).1.length : Int) := by
  rw [ct_nd_len] at *
  unfold ct_kn at *
  omega
theorem ct_nd_kv {A : Nat → Int → Int} {x : Int} {ka kb : List ct_KV} {e : ct_KV} (h : (ct_nd A x).1 = ka ++ e :: kb) : A 2 (5 * x + ka.length) = e.1 ∧ A 3 (5 * x + ka.length) = e.2 := by
  have := ct_sg_get (f := fun j => (A 2 j, A 3 j)) ka _ _ h
  rw [← this]
  exact ⟨rfl, rfl⟩
theorem ct_nd_ch {A : Nat → Int → Int} {x c : Int} {ca cb : List Int} (h : (ct_nd A x).2 = ca ++ c :: cb) : A 4 (6 * x + ca.length) = c := by
  unfold ct_nd at h
  by_cases e : A 4 (6 * x) < 0
  · simp [e] at h
  · simp only [e, if_false] at h
    exact ct_sg_get ca _ _ h
theorem ct_nd_lf {A : Nat → Int → Int} {x : Int} : (ct_nd A x).2 = [] ↔ A 4 (6 * x) < 0 := by
  unfold ct_nd
  by_cases e : A 4 (6 * x) < 0
  · simp [e]
  · simp [e, ct_sg]
theorem ct_nd_cl {A : Nat → Int → Int} {x : Int} (h : ¬ A 4 (6 * x) < 0) : (ct_nd A x).2.length = ct_kn A x + 1 := by
  unfold ct_nd
  simp only [h, if_false]
  exact ct_sg_len _ _ _
/-- a node from its parts: keys and values, then the children -/
theorem ct_nd_mk {A : Nat → Int → Int} {x : Int} {n : Nat} {ks : List ct_KV} {cs : List Int} (h1 : A 1 x = n) (hn : n ≤ 5) (hk : ct_sg (fun j => (A 2 j, A 3 j)) (5 * x) n = ks) (hc : (A 4 (6 * x) < 0 ∧ cs = []) ∨ (¬ A 4 (6 * x) < 0 ∧ ct_sg (A 4) (6 * x) (n + 1) = cs)) : ct_nd A x = (ks, cs) := by
  have e : ct_kn A x = n := by unfold ct_kn; omega
  unfold ct_nd
  rw [e, hk]
  rcases hc with ⟨h, h'⟩ | ⟨h, h'⟩
  · rw [if_pos h, h']
  · rw [if_neg h, h']
end
section
/-! ===== 07: the pages that trees need, a new page ===== -/
/-- a tree as the marking needs it -/
def ct_sv (f1 f4 : Int → Int) (H : ct_Hp) : Nat → Int → Prop
  | 0, x => 0 ≤ x ∧ x < 100 ∧ f4 (6 * x) < 0 ∧ -128 ≤ f4 (6 * x)
  | d + 1, x => 0 ≤ x ∧ x < 100 ∧ 0 ≤ f1 x ∧ f1 x ≤ 5 ∧ 0 ≤ f4 (6 * x) ∧ ∀ c, c ∈ (H x).2 → ct_sv f1 f4 H d c
def ct_sw (A : Nat → Int → Int) (d : Nat) (x : Int) : Prop := ct_sv (A 1) (A 4) (ct_nd A) d x
theorem ct_sw_rg {A : Nat → Int → Int} {d : Nat} {x : Int} (h : ct_sw A d x) : 0 ≤ x ∧ x < 100 := by
  cases d with
  | zero => exact ⟨h.1, h.2.1⟩
  | succ d => exact ⟨h.1, h.2.1⟩
theorem ct_sw_cg {A B : Nat → Int → Int} : ∀ (d : Nat) (x : Int), (∀ q, q ∈ ct_pg (ct_nd A) d x → ct_nd B q = ct_nd A q ∧ B 1 q = A 1 q ∧ B 4 (6 * q) = A 4 (6 * q)) → ct_sw A d x → ct_sw B d x := by
  intro d
  induction d with
  | zero =>
    intro x h hs
    have e := h x (ct_pg_self _ _ _)
    simp only [ct_sw, ct_sv] at hs ⊢
    rw [e.2.2]
    exact hs
  | succ d ih =>
    intro x h hs
    have e := h x (ct_pg_self _ _ _)
    simp only [ct_sw, ct_sv] at hs ⊢
    rw [e.1, e.2.1, e.2.2]
    refine ⟨hs.1, hs.2.1, hs.2.2.1, hs.2.2.2.1, hs.2.2.2.2.1, fun c hc => ih c (fun q hq => h q ?_) (hs.2.2.2.2.2 c hc)⟩
    simp only [ct_pg, List.mem_cons, List.mem_flatten, List.mem_map]
    exact Or.inr ⟨_, ⟨c, hc, rfl⟩, hq⟩
def ct_Sk (f : Int → Int) : List (Nat × Int) → Prop
  | [] => True
  | s :: ss => f (ss.length : Int) = s.2 ∧ ct_Sk f ss
def ct_Sp (H : ct_Hp) (ss : List (Nat × Int)) : List Int := (ss.map (fun s => ct_pg H s.1 s.2)).flatten
theorem ct_Sk_up {f : Int → Int} {v : Int} : ∀ (ss : List (Nat × Int)) (k : Int), (ss.length : Int) ≤ k → ct_Sk f ss → ct_Sk (ct_up f k v) ss := by
  intro ss
  induction ss with
  | nil => intro k _ _; trivial
  | cons s ss ih =>
    intro k hk h
    simp only [List.length_cons] at hk
    exact ⟨by rw [ct_un (by omega)]; exact h.1, ih k (by omega) h.2⟩
theorem ct_pg_pos (H : ct_Hp) (d : Nat) (x : Int) : 1 ≤ (ct_pg H d x).length := by cases d <;> simp [ct_pg]
theorem ct_Sp_len (H : ct_Hp) : ∀ (ss : List (Nat × Int)), ss.length ≤ (ct_Sp H ss).length := by
  intro ss
  induction ss with
  | nil => simp
  | cons s ss ih =>
    have := ct_pg_pos H s.1 s.2
    simp only [ct_Sp, List.map_cons, List.flatten_cons, List.length_append, List.length_cons] at ih ⊢
    omega
theorem ct_markTree_49 {post : St1 → Prop} {J : Int32 → (Nat → Int32) → (Nat → Int32) → (Nat → Int32) → (Nat → Int32) → (Nat → Int32) → (Nat → Int32) → (Nat → Int32) → (Nat → Int32) → (Nat → Int32) → (Nat → Int32) → (Nat → Int32) → (Nat → Int32) → (Nat → Int32) → (Nat → Int32) → (Nat → Int32) → (Nat → Int32) → Prop} {A : Nat → Int → Int} {x : Int} {d : Nat} (h0 : 0 ≤ x) (h1 : x < 100) (hn0 : 0 ≤ A 1 x) (hn5 : A 1 x ≤ 5) (h4 : 0 ≤ A 4 (6 * x)) :
    ∀ (cs ci : List Int) (ss : List (Nat × Int)) (f : Int → Int), (ct_nd A x).2 = ci ++ cs → ss.length + cs.length ≤ 100 → ct_Sk f ss → (∀ f', ct_Sk f' ((cs.map (fun c => (d, c))).reverse ++ ss) → J (ct_i ((ss.length : Int) + cs.length)) (ct_c ((ct_st A 16 f') 1)) (ct_c ((ct_st A 16 f') 2)) (ct_a ((ct_st A 16 f') 3)) (ct_c ((ct_st A 16 f') 4)) (ct_a ((ct_st A 16 f') 5)) (ct_a ((ct_st A 16 f') 6)) (ct_c ((ct_st A 16 f') 7)) (ct_c ((ct_st A 16 f') 8)) (ct_a ((ct_st A 16 f') 9)) (ct_a ((ct_st A 16 f') 10)) (ct_c ((ct_st A 16 f') 11)) (ct_c ((ct_st A 16 f') 12)) (ct_a ((ct_st A 16 f') 13)) (ct_c ((ct_st A 16 f') 14)) (ct_c ((ct_st A 16 f') 15)) (ct_c ((ct_st A 16 f') 16))) →
    wX_markTree_49 post J (ct_i x) (ct_i (A 0 0)) (cs.length + 1) (ct_i (ss.length : Int)) (ct_i (ci.length : Int)) (ct_c ((ct_st A 16 f) 1)) (ct_c ((ct_st A 16 f) 2)) (ct_a ((ct_st A 16 f) 3)) (ct_c ((ct_st A 16 f) 4)) (ct_a ((ct_st A 16 f) 5)) (ct_a ((ct_st A 16 f) 6)) (ct_c ((ct_st A 16 f) 7)) (ct_c ((ct_st A 16 f) 8)) (ct_a ((ct_st A 16 f) 9)) (ct_a ((ct_st A 16 f) 10)) (ct_c ((ct_st A 16 f) 11)) (ct_c ((ct_st A 16 f) 12)) (ct_a ((ct_st A 16 f) 13)) (ct_c ((ct_st A 16 f) 14)) (ct_c ((ct_st A 16 f) 15)) (ct_c ((ct_st A 16 f) 16)) := by
  intro cs
  have hkn : (ct_kn A x : Int) = A 1 x := by unfold ct_kn; omega
  have hb : ct_c (A 1) (ct_i x).toNatClampNeg = ct_i (A 1 x) := by rw [ct_rc h0 (by omega), ct_bI (by omega) (by omega)]
  induction cs with
  | nil =>
    intro ci ss f hc hl hs hJ
    have hcl := ct_nd_cl (A := A) (x := x) (by omega)
    rw [hc] at hcl
    simp at hcl
    unfold wX_markTree_49
    refine ⟨ct_in h0 (by omega) (by decide), br_t ?_ ?_⟩
    · show ct_c (A 1) (ct_i x).toNatClampNeg < _
      rw [hb, ct_lt (by omega) (by omega) (by omega) (by omega)]
      omega
    · have := hJ f (by simpa using hs)
      simp only [List.length_nil] at this
      rw [show (ss.length : Int) + ((0 : Nat) : Int) = ss.length by omega] at this
      exact this
  | cons c cs ih =>
    intro ci ss f hc hl hs hJ
    have hcl := ct_nd_cl (A := A) (x := x) (by omega)
    rw [hc] at hcl
    simp at hcl
    simp only [List.length_cons] at hl
    have hch := ct_nd_ch hc
    have hr : ct_c (A 4) (ct_i (6 * x + ci.length)).toNatClampNeg = ct_b c := by rw [ct_rc (by omega) (by omega), hch]
    unfold wX_markTree_49
    refine ⟨ct_in h0 (by omega) (by decide), br_f ?_ ?_⟩
    · show ¬ ct_c (A 1) (ct_i x).toNatClampNeg < _
      rw [hb, ct_lt (by omega) (by omega) (by omega) (by omega)]
      omega
    · have := ih (ci ++ [c]) ((d, c) :: ss) (ct_up f ss.length c) (by rw [hc]; simp) (by simp only [List.length_cons]; omega) ⟨ct_us, ct_Sk_up ss _ (by omega) hs⟩ (by
        intro f' hf'
        have := hJ f' (by simpa using hf')
        simp only [List.length_cons] at this ⊢
        rw [show ((ss.length + 1 : Nat) : Int) + cs.length = ss.length + ((cs.length + 1 : Nat) : Int) by omega]
        exact this)
      simp only [List.length_append, List.length_cons, List.length_nil] at this
      rw [show ((ss.length + 1 : Nat) : Int) = ss.length + 1 by omega, show ((ci.length + (0 + 1) : Nat) : Int) = ci.length + 1 by omega] at this
      have e1 : (6 : Int32) * ct_i x + ct_i (ci.length : Int) = ct_i (6 * x + ci.length) := by
        rw [ct_l6, ct_mul, ct_add]
      rw [e1]
      refine ⟨ct_in (by omega) (by omega) (by decide), ct_in (by omega) (by omega) (by decide), nm_r (e' := ct_c (ct_up f ss.length c)) ?_ (nm_r (e' := ct_i (ss.length + 1)) ?_ (nm_r (e' := ct_i (ci.length + 1)) ?_ ?_))⟩
      · show upd (ct_c f) _ (vp_nar .byte (ct_c (A 4) (ct_i (6 * x + ci.length)).toNatClampNeg)) = _
        rw [hr, ct_nb, ct_wc (by omega) (by omega)]
      · rw [ct_l1, ct_add]
      · rw [ct_l1, ct_add]
      · exact this
theorem ct_markTree_10 {post : St1 → Prop} {A : Nat → Int → Int} : ∀ (T : Nat) (ss : List (Nat × Int)) (f g : Int → Int), (ct_Sp (ct_nd A) ss).length = T → T ≤ 100 → ct_Sk f ss → (∀ s, s ∈ ss → ct_sw A s.1 s.2) →
    (∀ f' g', (∀ q, q ∈ ct_Sp (ct_nd A) ss → g' q = 1) → (∀ q, q ∉ ct_Sp (ct_nd A) ss → g' q = g q) → post (ct_lf (ct_st (ct_st A 6 g') 16 f'))) →
    wX_markTree_10 post (ct_i (A 0 0)) (T + 1) (ct_i (ss.length : Int)) (ct_c ((ct_st (ct_st A 6 g) 16 f) 1)) (ct_c ((ct_st (ct_st A 6 g) 16 f) 2)) (ct_a ((ct_st (ct_st A 6 g) 16 f) 3)) (ct_c ((ct_st (ct_st A 6 g) 16 f) 4)) (ct_a ((ct_st (ct_st A 6 g) 16 f) 5)) (ct_a ((ct_st (ct_st A 6 g) 16 f) 6)) (ct_c ((ct_st (ct_st A 6 g) 16 f) 7)) (ct_c ((ct_st (ct_st A 6 g) 16 f) 8)) (ct_a ((ct_st (ct_st A 6 g) 16 f) 9)) (ct_a ((ct_st (ct_st A 6 g) 16 f) 10)) (ct_c ((ct_st (ct_st A 6 g) 16 f) 11)) (ct_c ((ct_st (ct_st A 6 g) 16 f) 12)) (ct_a ((ct_st (ct_st A 6 g) 16 f) 13)) (ct_c ((ct_st (ct_st A 6 g) 16 f) 14)) (ct_c ((ct_st (ct_st A 6 g) 16 f) 15)) (ct_c ((ct_st (ct_st A 6 g) 16 f) 16)) := by
  intro T
  induction T with
  | zero =>
    intro ss f g hT _ hk hs hp
    have := ct_Sp_len (ct_nd A) ss
    have e : ss = [] := List.length_eq_zero_iff.mp (by omega)
    subst e
    unfold wX_markTree_10
    refine br_t ?_ ?_
    · show ct_i _ ≤ ct_i 0
      rw [ct_le (by simp) (by simp) (by omega) (by omega)]
      simp
    · exact hp f g (by simp [ct_Sp]) (fun _ _ => rfl)
  | succ T ih =>
    intro ss f g hT hT1 hk hs hp
    have hlen := ct_Sp_len (ct_nd A) ss
    cases ss with
    | nil => simp [ct_Sp] at hT
    | cons s ss =>
      obtain ⟨d, x⟩ := s
      have hx := hs (d, x) (by simp)
      have hxr := ct_sw_rg hx
      simp only at hx hxr
      have hk1 := hk.1
      have hlen2 := ct_Sp_len (ct_nd A) ss
      have hT2 : (ct_pg (ct_nd A) d x).length + (ct_Sp (ct_nd A) ss).length = T + 1 := by
        rw [← hT]; simp [ct_Sp]
      have hpos := ct_pg_pos (ct_nd A) d x
      simp only [List.length_cons] at hlen
      unfold wX_markTree_10
      refine br_f ?_ ?_
      · show ¬ ct_i _ ≤ ct_i 0
        rw [ct_le (by simp; omega) (by simp; omega) (by omega) (by omega)]
        simp only [List.length_cons]; omega
      · refine nm_r (e' := ct_i (ss.length : Int)) (by rw [ct_l1, ct_neg, ct_add]; congr 1; simp; omega) ⟨ct_in (by omega) (by omega) (by decide), ?_⟩
        refine nm_r (e' := ct_i x) ?_ ⟨ct_in hxr.1 (by omega) (by decide), ?_⟩
        · show ct_c f (ct_i (ss.length : Int)).toNatClampNeg = _
          rw [ct_rc (by omega) (by omega), hk1, ct_bI (by omega) (by omega)]
        refine nm_r (e' := ct_a (ct_up g x 1)) ?_ ?_
        · exact ct_wr (v := 1) hxr.1 (by omega)
        have e6 : (6 : Int32) * ct_i x = ct_i (6 * x) := by rw [ct_l6, ct_mul]
        rw [e6]
        refine ⟨ct_in (by omega) (by omega) (by decide), ?_⟩
        have hr : ct_c (A 4) (ct_i (6 * x)).toNatClampNeg = ct_b (A 4 (6 * x)) := ct_rc (by omega) (by omega)
        cases d with
        | zero =>
          refine br_f ?_ ?_
          · show ¬ ct_i 0 ≤ ct_c (A 4) (ct_i (6 * x)).toNatClampNeg
            have h3 := hx.2.2.1
            have h4 := hx.2.2.2
            rw [hr, ct_bI (by omega) (by omega), ct_le (by omega) (by omega) (by omega) (by omega)]
            omega
          · simp only [ct_pg, List.length_cons, List.length_nil] at hT2
            refine ih ss f (ct_up g x 1) (by omega) (by omega) hk.2 (fun s h => hs s (by simp [h])) (fun f' g' h1 h2 => hp f' g' (fun q hq => ?_) (fun q hq => ?_))
            · by_cases hm : q ∈ ct_Sp (ct_nd A) ss
              · exact h1 q hm
              · rw [h2 q hm]
                simp only [ct_Sp, List.map_cons, List.flatten_cons, List.mem_append, ct_pg, List.mem_singleton] at hq hm
                rcases hq with hq | hq
                · rw [hq, ct_us]
                · exact absurd hq hm
            · simp only [ct_Sp, List.map_cons, List.flatten_cons, List.mem_append, ct_pg, List.mem_singleton, not_or] at hq
              rw [h2 q hq.2, ct_un hq.1]
        | succ d =>
          obtain ⟨g0, g1, g2, g3, g4, g5⟩ := hx
          have hcl := ct_nd_cl (A := A) (x := x) (by omega)
          have hSp : ct_Sp (ct_nd A) ((d + 1, x) :: ss) = x :: (((ct_nd A x).2.map (ct_pg (ct_nd A) d)).flatten ++ ct_Sp (ct_nd A) ss) := by
            simp [ct_Sp, ct_pg]
          have hSl : (ct_Sp (ct_nd A) (((ct_nd A x).2.map (fun c => (d, c))).reverse ++ ss)).length = T := by
            rw [hSp] at hT
            simp only [List.length_cons, List.length_append] at hT
            simp only [ct_Sp, List.map_append, List.map_reverse, List.map_map, List.flatten_append, List.length_append, List.length_flatten, List.sum_reverse] at hT ⊢
            simp only [Function.comp_def] at hT ⊢
            omega
          have hl2 := ct_Sp_len (ct_nd A) (((ct_nd A x).2.map (fun c => (d, c))).reverse ++ ss)
          simp only [List.length_append, List.length_reverse, List.length_map] at hl2
          have hmem : ∀ q, q ∈ ct_Sp (ct_nd A) (((ct_nd A x).2.map (fun c => (d, c))).reverse ++ ss) ↔ (q ∈ ((ct_nd A x).2.map (ct_pg (ct_nd A) d)).flatten ∨ q ∈ ct_Sp (ct_nd A) ss) := by
            intro q
            simp [ct_Sp]
          have hb4 : ct_b (A 4 (6 * x)) = ct_i (A 4 (6 * x)) := by
            obtain ⟨c, hc⟩ : ∃ c cb, (ct_nd A x).2 = c :: cb := by
              cases hh : (ct_nd A x).2 with
              | nil => rw [hh] at hcl; simp at hcl
              | cons c cb => exact ⟨c, cb, rfl⟩
            obtain ⟨cb, hc⟩ := hc
            have e := ct_nd_ch (ca := []) (by simpa using hc)
            have r := ct_sw_rg (g5 c (by rw [hc]; simp))
            simp at e
            rw [e]
            exact ct_bI (by omega) (by omega)
          have hr4 : A 4 (6 * x) < 128 := by
            obtain ⟨c, hc⟩ : ∃ c cb, (ct_nd A x).2 = c :: cb := by
              cases hh : (ct_nd A x).2 with
              | nil => rw [hh] at hcl; simp at hcl
              | cons c cb => exact ⟨c, cb, rfl⟩
            obtain ⟨cb, hc⟩ := hc
            have e := ct_nd_ch (ca := []) (by simpa using hc)
            have r := ct_sw_rg (g5 c (by rw [hc]; simp))
            simp at e
            omega
          refine br_t ?_ ⟨(ct_nd A x).2.length + 1, ?_⟩
          · show ct_i 0 ≤ ct_c (A 4) (ct_i (6 * x)).toNatClampNeg
            rw [hr, hb4, ct_le (by omega) (by omega) (by omega) (by omega)]
            omega
          · have hnd : ct_nd (ct_st A 6 (ct_up g x 1)) x = ct_nd A x := rfl
            refine ct_markTree_49 (A := ct_st A 6 (ct_up g x 1)) (d := d) g0 g1 g2 g3 g4 (ct_nd A x).2 [] ss f (by rw [hnd]; rfl) (by omega) hk.2 (fun f' hf' => ?_)
            have := ih _ f' (ct_up g x 1) hSl (by omega) hf' (fun s h => by
              simp only [List.mem_append, List.mem_reverse, List.mem_map] at h
              rcases h with ⟨c, hc, e⟩ | h
              · rw [← e]; exact g5 c hc
              · exact hs s (by simp [h])) (fun f' g' h1 h2 => hp f' g' (fun q hq => ?_) (fun q hq => ?_))
            · simp only [List.length_append, List.length_reverse, List.length_map] at this
              rw [show (((ct_nd A x).2.length + ss.length : Nat) : Int) = (ss.length : Int) + ((ct_nd A x).2.length : Int) by omega] at this
              exact this
            · rw [hSp] at hq
              by_cases hm : q ∈ ct_Sp (ct_nd A) (((ct_nd A x).2.map (fun c => (d, c))).reverse ++ ss)
              · exact h1 q hm
              · rw [h2 q hm]
                rw [hmem q] at hm
                simp only [List.mem_cons, List.mem_append] at hq
                rcases hq with hq | hq
                · rw [hq, ct_us]
                · exact absurd hq hm
            · rw [hSp] at hq
              simp only [List.mem_cons, List.mem_append, not_or] at hq
              rw [h2 q (by rw [hmem q]; intro z; rcases z with z | z; exact hq.2.1 z; exact hq.2.2 z), ct_un hq.1]
theorem ct_markTree {post : St1 → Prop} {A : Nat → Int → Int} {d : Nat} {x : Int} (hs : ct_sw A d x) (hl : (ct_pg (ct_nd A) d x).length ≤ 100) (hp : ∀ f g, (∀ q, q ∈ ct_pg (ct_nd A) d x → g q = 1) → (∀ q, q ∉ ct_pg (ct_nd A) d x → g q = A 6 q) → post (ct_lf (ct_st (ct_st A 6 g) 16 f))) : wpX_markTree post (ct_lf A) (ct_i x) := by
  have hr := ct_sw_rg hs
  unfold wpX_markTree ct_lf
  dsimp only
  refine nm_r (e' := ct_c (ct_up (A 16) 0 x)) (ct_wc0 (A 16) x) ⟨(ct_pg (ct_nd A) d x).length + 1, ?_⟩
  have hSp : ct_Sp (ct_nd A) [(d, x)] = ct_pg (ct_nd A) d x := by simp [ct_Sp]
  have := ct_markTree_10 (post := post) (A := A) (ct_pg (ct_nd A) d x).length [(d, x)] (ct_up (A 16) 0 x) (A 6) (by rw [hSp]) hl ⟨ct_us, trivial⟩ (by simpa using hs) (by rw [hSp]; exact hp)
  exact this
def ct_RP (A : Nat → Int → Int) (D : Nat → Nat) (k : Nat) : List Int := if A 11 k < 0 then [] else ct_pg (ct_nd A) (D k) (A 11 k)
def ct_MP (A : Nat → Int → Int) (D : Nat → Nat) (m : Nat) : List Int := if A 10 m = 0 ∨ A 7 m < 0 then [] else ct_pg (ct_nd A) (D (4 + m)) (A 7 m)
def ct_RPs (A : Nat → Int → Int) (D : Nat → Nat) : Nat → Nat → List Int
  | _, 0 => []
  | k, m + 1 => ct_RP A D k ++ ct_RPs A D (k + 1) m
def ct_MPs (A : Nat → Int → Int) (D : Nat → Nat) : Nat → Nat → List Int
  | _, 0 => []
  | k, m + 1 => ct_MP A D k ++ ct_MPs A D (k + 1) m
/-- a root: none, or a tree that can be marked -/
def ct_rt (A : Nat → Int → Int) (d : Nat) (r : Int) : Prop := (-2 ≤ r ∧ r < 0) ∨ (ct_sw A d r ∧ (ct_pg (ct_nd A) d r).length ≤ 100)
theorem ct_rt_rg {A : Nat → Int → Int} {d : Nat} {r : Int} (h : ct_rt A d r) : -2 ≤ r ∧ r < 100 := by
  rcases h with h | h
  · omega
  · have := ct_sw_rg h.1; omega
theorem ct_findUsed_55 {post : St1 → Prop} {A : Nat → Int → Int} {D : Nat → Nat} (hm : ∀ m : Nat, m < 2 → A 10 m = 0 ∨ (A 10 m = 1 ∧ ct_rt A (D (4 + m)) (A 7 m))) : ∀ (m k : Nat) (M : List Int) (f g : Int → Int), k + m = 2 → (∀ q, q ∈ M → g q = 1) → (∀ q, q ∉ M → 0 ≤ q → q < 100 → g q = 0) →
    (∀ f' g', (∀ q, q ∈ M ∨ q ∈ ct_MPs A D k m → g' q = 1) → (∀ q, ¬ (q ∈ M ∨ q ∈ ct_MPs A D k m) → 0 ≤ q → q < 100 → g' q = 0) → post (ct_lf (ct_st (ct_st A 6 g') 16 f'))) →
    wX_findUsed_55 post (m + 1) (ct_i k) (ct_i (A 0 0)) (ct_c ((ct_st (ct_st A 6 g) 16 f) 1)) (ct_c ((ct_st (ct_st A 6 g) 16 f) 2)) (ct_a ((ct_st (ct_st A 6 g) 16 f) 3)) (ct_c ((ct_st (ct_st A 6 g) 16 f) 4)) (ct_a ((ct_st (ct_st A 6 g) 16 f) 5)) (ct_a ((ct_st (ct_st A 6 g) 16 f) 6)) (ct_c ((ct_st (ct_st A 6 g) 16 f) 7)) (ct_c ((ct_st (ct_st A 6 g) 16 f) 8)) (ct_a ((ct_st (ct_st A 6 g) 16 f) 9)) (ct_a ((ct_st (ct_st A 6 g) 16 f) 10)) (ct_c ((ct_st (ct_st A 6 g) 16 f) 11)) (ct_c ((ct_st (ct_st A 6 g) 16 f) 12)) (ct_a ((ct_st (ct_st A 6 g) 16 f) 13)) (ct_c ((ct_st (ct_st A 6 g) 16 f) 14)) (ct_c ((ct_st (ct_st A 6 g) 16 f) 15)) (ct_c ((ct_st (ct_st A 6 g) 16 f) 16)) := by
  intro m
  induction m with
  | zero =>
    intro k M f g hk h1 h2 hp
    unfold wX_findUsed_55
    refine br_t ?_ ?_
    · show ct_i 2 ≤ ct_i k
      rw [ct_le (by omega) (by omega) (by omega) (by omega)]; omega
    · exact hp f g (fun q hq => h1 q (by simpa [ct_MPs] using hq)) (fun q hq => h2 q (by simpa [ct_MPs] using hq))
  | succ m ih =>
    intro k M f g hk h1 h2 hp
    have hmk := hm k (by omega)
    have e10 : ct_a (A 10) (ct_i k).toNatClampNeg = ct_i (A 10 k) := ct_rd (by omega) (by omega)
    have e7 : ct_c (A 7) (ct_i k).toNatClampNeg = ct_b (A 7 k) := ct_rc (by omega) (by omega)
    have e1 : ct_i (k : Int) + 1 = ct_i ((k + 1 : Nat) : Int) := by rw [ct_l1, ct_add]; congr 1
    unfold wX_findUsed_55
    refine br_f ?_ ⟨ct_in (by omega) (by omega) (by decide), ?_⟩
    · show ¬ ct_i 2 ≤ ct_i k
      rw [ct_le (by omega) (by omega) (by omega) (by omega)]; omega
    · rcases hmk with h | ⟨h, hr⟩
      · refine br_t ?_ (nm_r e1 ?_)
        · show ct_a (A 10) (ct_i k).toNatClampNeg = 0
          rw [e10, h]; rfl
        · refine ih (k + 1) M f g (by omega) h1 h2 ?_
          simp only [ct_MPs, ct_MP, h, true_or, if_true, List.nil_append] at hp
          exact hp
      · have hrg := ct_rt_rg hr
        refine br_f ?_ ⟨ct_in (by omega) (by omega) (by decide), ?_⟩
        · show ¬ ct_a (A 10) (ct_i k).toNatClampNeg = 0
          rw [e10, h]; decide
        · have e7' : ct_b (A 7 k) = ct_i (A 7 k) := ct_bI (by omega) (by omega)
          rcases hr with hr | hr
          · refine br_t ?_ (nm_r e1 ?_)
            · show ct_c (A 7) (ct_i k).toNatClampNeg < ct_i 0
              rw [e7, e7', ct_lt (by omega) (by omega) (by omega) (by omega)]
              omega
            · refine ih (k + 1) M f g (by omega) h1 h2 ?_
              have : A 7 k < 0 := hr.2
              simp only [ct_MPs, ct_MP, this, or_true, if_true, List.nil_append] at hp
              exact hp
          · have hx := ct_sw_rg hr.1
            refine br_f ?_ ⟨ct_in (by omega) (by omega) (by decide), ?_⟩
            · show ¬ ct_c (A 7) (ct_i k).toNatClampNeg < ct_i 0
              rw [e7, e7', ct_lt (by omega) (by omega) (by omega) (by omega)]
              omega
            · show wpX_markTree _ _ (ct_c (A 7) (ct_i k).toNatClampNeg)
              rw [e7, e7']
              refine ct_markTree (A := ct_st (ct_st A 6 g) 16 f) (d := D (4 + k)) (ct_sw_cg (A := A) _ _ (fun q _ => ⟨rfl, rfl, rfl⟩) hr.1) hr.2 (fun f' g' hg1 hg2 => ?_)
              have hg1' : ∀ q, q ∈ ct_pg (ct_nd A) (D (4 + k)) (A 7 k) → g' q = 1 := hg1
              have hg2' : ∀ q, q ∉ ct_pg (ct_nd A) (D (4 + k)) (A 7 k) → g' q = g q := hg2
              refine nm_r e1 ?_
              have hMP : ct_MP A D k = ct_pg (ct_nd A) (D (4 + k)) (A 7 k) := by
                unfold ct_MP
                rw [if_neg (by omega)]
              refine ih (k + 1) (M ++ ct_MP A D k) f' g' (by omega) (fun q hq => ?_) (fun q hq hq0 hq1 => ?_) (fun f'' g'' k1 k2 => hp f'' g'' (fun q hq => k1 q ?_) (fun q hq hq0 hq1 => k2 q ?_ hq0 hq1))
              · by_cases hm : q ∈ ct_pg (ct_nd A) (D (4 + k)) (A 7 k)
                · exact hg1' q hm
                · rw [hg2' q hm]
                  rw [hMP] at hq
                  rcases List.mem_append.mp hq with hq | hq
                  · exact h1 q hq
                  · exact absurd hq hm
              · rw [hMP] at hq
                simp only [List.mem_append, not_or] at hq
                rw [hg2' q hq.2]
                exact h2 q hq.1 hq0 hq1
              · simp only [ct_MPs, List.mem_append] at hq ⊢
                rcases hq with hq | hq | hq
                · exact Or.inl (Or.inl hq)
                · exact Or.inl (Or.inr hq)
                · exact Or.inr hq
              · simp only [ct_MPs, List.mem_append, not_or] at hq ⊢
                exact ⟨⟨hq.1, hq.2.1⟩, hq.2.2⟩
theorem ct_findUsed_23 {post : St1 → Prop} {A : Nat → Int → Int} {D : Nat → Nat} (hr : ∀ k : Nat, k < 4 → ct_rt A (D k) (A 11 k)) (hm : ∀ m : Nat, m < 2 → A 10 m = 0 ∨ (A 10 m = 1 ∧ ct_rt A (D (4 + m)) (A 7 m))) : ∀ (m k : Nat) (M : List Int) (f g : Int → Int), k + m = 4 → (∀ q, q ∈ M → g q = 1) → (∀ q, q ∉ M → 0 ≤ q → q < 100 → g q = 0) →
    (∀ f' g', (∀ q, (q ∈ M ∨ q ∈ ct_RPs A D k m) ∨ q ∈ ct_MPs A D 0 2 → g' q = 1) → (∀ q, ¬ ((q ∈ M ∨ q ∈ ct_RPs A D k m) ∨ q ∈ ct_MPs A D 0 2) → 0 ≤ q → q < 100 → g' q = 0) → post (ct_lf (ct_st (ct_st A 6 g') 16 f'))) →
    wX_findUsed_23 post (m + 1) (ct_i k) (ct_i (A 0 0)) (ct_c ((ct_st (ct_st A 6 g) 16 f) 1)) (ct_c ((ct_st (ct_st A 6 g) 16 f) 2)) (ct_a ((ct_st (ct_st A 6 g) 16 f) 3)) (ct_c ((ct_st (ct_st A 6 g) 16 f) 4)) (ct_a ((ct_st (ct_st A 6 g) 16 f) 5)) (ct_a ((ct_st (ct_st A 6 g) 16 f) 6)) (ct_c ((ct_st (ct_st A 6 g) 16 f) 7)) (ct_c ((ct_st (ct_st A 6 g) 16 f) 8)) (ct_a ((ct_st (ct_st A 6 g) 16 f) 9)) (ct_a ((ct_st (ct_st A 6 g) 16 f) 10)) (ct_c ((ct_st (ct_st A 6 g) 16 f) 11)) (ct_c ((ct_st (ct_st A 6 g) 16 f) 12)) (ct_a ((ct_st (ct_st A 6 g) 16 f) 13)) (ct_c ((ct_st (ct_st A 6 g) 16 f) 14)) (ct_c ((ct_st (ct_st A 6 g) 16 f) 15)) (ct_c ((ct_st (ct_st A 6 g) 16 f) 16)) := by
  intro m
  induction m with
  | zero =>
    intro k M f g hk h1 h2 hp
    unfold wX_findUsed_23
    refine br_t ?_ ⟨3, ?_⟩
    · show ct_i 4 ≤ ct_i k
      rw [ct_le (by omega) (by omega) (by omega) (by omega)]; omega
    · refine ct_findUsed_55 (D := D) hm 2 0 M f g (by omega) h1 h2 (fun f' g' k1 k2 => hp f' g' (fun q hq => k1 q ?_) (fun q hq => k2 q ?_))
      · simpa [ct_RPs] using hq
      · simpa [ct_RPs] using hq
  | succ m ih =>
    intro k M f g hk h1 h2 hp
    have hrk := hr k (by omega)
    have hrg := ct_rt_rg hrk
    have e7 : ct_c (A 11) (ct_i k).toNatClampNeg = ct_b (A 11 k) := ct_rc (by omega) (by omega)
    have e7' : ct_b (A 11 k) = ct_i (A 11 k) := ct_bI (by omega) (by omega)
    have e1 : ct_i (k : Int) + 1 = ct_i ((k + 1 : Nat) : Int) := by rw [ct_l1, ct_add]; congr 1
    unfold wX_findUsed_23
    refine br_f ?_ ⟨ct_in (by omega) (by omega) (by decide), ?_⟩
    · show ¬ ct_i 4 ≤ ct_i k
      rw [ct_le (by omega) (by omega) (by omega) (by omega)]; omega
    · rcases hrk with hr | hr
      · refine br_t ?_ (nm_r e1 ?_)
        · show ct_c (A 11) (ct_i k).toNatClampNeg < ct_i 0
          rw [e7, e7', ct_lt (by omega) (by omega) (by omega) (by omega)]
          omega
        · refine ih (k + 1) M f g (by omega) h1 h2 ?_
          have : A 11 k < 0 := hr.2
          simp only [ct_RPs, ct_RP, this, if_true, List.nil_append] at hp
          exact hp
      · have hx := ct_sw_rg hr.1
        refine br_f ?_ ⟨ct_in (by omega) (by omega) (by decide), ?_⟩
        · show ¬ ct_c (A 11) (ct_i k).toNatClampNeg < ct_i 0
          rw [e7, e7', ct_lt (by omega) (by omega) (by omega) (by omega)]
          omega
        · show wpX_markTree _ _ (ct_c (A 11) (ct_i k).toNatClampNeg)
          rw [e7, e7']
          refine ct_markTree (A := ct_st (ct_st A 6 g) 16 f) (d := D k) (ct_sw_cg (A := A) _ _ (fun q _ => ⟨rfl, rfl, rfl⟩) hr.1) hr.2 (fun f' g' hg1 hg2 => ?_)
          have hg1' : ∀ q, q ∈ ct_pg (ct_nd A) (D k) (A 11 k) → g' q = 1 := hg1
          have hg2' : ∀ q, q ∉ ct_pg (ct_nd A) (D k) (A 11 k) → g' q = g q := hg2
          refine nm_r e1 ?_
          have hMP : ct_RP A D k = ct_pg (ct_nd A) (D k) (A 11 k) := by
            unfold ct_RP
            rw [if_neg (by omega)]
          refine ih (k + 1) (M ++ ct_RP A D k) f' g' (by omega) (fun q hq => ?_) (fun q hq hq0 hq1 => ?_) (fun f'' g'' k1 k2 => hp f'' g'' (fun q hq => k1 q ?_) (fun q hq hq0 hq1 => k2 q ?_ hq0 hq1))
          · by_cases hm : q ∈ ct_pg (ct_nd A) (D k) (A 11 k)
            · exact hg1' q hm
            · rw [hg2' q hm]
              rw [hMP] at hq
              rcases List.mem_append.mp hq with hq | hq
              · exact h1 q hq
              · exact absurd hq hm
          · rw [hMP] at hq
            simp only [List.mem_append, not_or] at hq
            rw [hg2' q hq.2]
            exact h2 q hq.1 hq0 hq1
          · simp only [ct_RPs, List.mem_append] at hq ⊢
            rcases hq with (hq | hq | hq) | hq
            · exact Or.inl (Or.inl (Or.inl hq))
            · exact Or.inl (Or.inl (Or.inr hq))
            · exact Or.inl (Or.inr hq)
            · exact Or.inr hq
          · simp only [ct_RPs, List.mem_append, not_or] at hq ⊢
            exact ⟨⟨⟨hq.1.1, hq.1.2.1⟩, hq.1.2.2⟩, hq.2⟩
theorem ct_findUsed_2 {post : St1 → Prop} {A : Nat → Int → Int} (hp : ∀ g, (∀ q, 0 ≤ q → q < 100 → g q = 0) → ∃ n, wX_findUsed_23 post n 0 (ct_i (A 0 0)) (ct_c ((ct_st A 6 g) 1)) (ct_c ((ct_st A 6 g) 2)) (ct_a ((ct_st A 6 g) 3)) (ct_c ((ct_st A 6 g) 4)) (ct_a ((ct_st A 6 g) 5)) (ct_a ((ct_st A 6 g) 6)) (ct_c ((ct_st A 6 g) 7)) (ct_c ((ct_st A 6 g) 8)) (ct_a ((ct_st A 6 g) 9)) (ct_a ((ct_st A 6 g) 10)) (ct_c ((ct_st A 6 g) 11)) (ct_c ((ct_st A 6 g) 12)) (ct_a ((ct_st A 6 g) 13)) (ct_c ((ct_st A 6 g) 14)) (ct_c ((ct_st A 6 g) 15)) (ct_c ((ct_st A 6 g) 16))) : ∀ (m : Nat) (i : Int), 0 ≤ i → i + m = 100 → wX_findUsed_2 post (ct_i (A 0 0)) (m + 1) (ct_i i) (ct_c ((ct_st A 6 (ct_fill (A 6) i 0)) 1)) (ct_c ((ct_st A 6 (ct_fill (A 6) i 0)) 2)) (ct_a ((ct_st A 6 (ct_fill (A 6) i 0)) 3)) (ct_c ((ct_st A 6 (ct_fill (A 6) i 0)) 4)) (ct_a ((ct_st A 6 (ct_fill (A 6) i 0)) 5)) (ct_a ((ct_st A 6 (ct_fill (A 6) i 0)) 6)) (ct_c ((ct_st A 6 (ct_fill (A 6) i 0)) 7)) (ct_c ((ct_st A 6 (ct_fill (A 6) i 0)) 8)) (ct_a ((ct_st A 6 (ct_fill (A 6) i 0)) 9)) (ct_a ((ct_st A 6 (ct_fill (A 6) i 0)) 10)) (ct_c ((ct_st A 6 (ct_fill (A 6) i 0)) 11)) (ct_c ((ct_st A 6 (ct_fill (A 6) i 0)) 12)) (ct_a ((ct_st A 6 (ct_fill (A 6) i 0)) 13)) (ct_c ((ct_st A 6 (ct_fill (A 6) i 0)) 14)) (ct_c ((ct_st A 6 (ct_fill (A 6) i 0)) 15)) (ct_c ((ct_st A 6 (ct_fill (A 6) i 0)) 16)) := by
  intro m
  induction m with
  | zero =>
    intro i h0 h
    unfold wX_findUsed_2
    have e : i = 100 := by omega
    subst e
    refine br_t (by decide) ?_
    exact hp (ct_fill (A 6) 100 0) (fun q h0 h1 => by unfold ct_fill; rw [if_pos (by omega)])
  | succ m ih =>
    intro i h0 h
    unfold wX_findUsed_2
    simp (disch := omega) only [ct_l0, ct_l1, ct_l2, ct_l3, ct_l4, ct_l5, ct_l6, ct_l24, ct_l25, ct_l99, ct_l100, ct_neg, ct_add, ct_sub, ct_mul, ct_inT, ct_rd, ct_rc, ct_wr, ct_wc, ct_wci, ct_bI, ct_nb, ct_nbi, ct_tb, ct_le, ct_lt, ct_eq, ct_rc0, ct_rc1, ct_rc3, ct_rd0, ct_rd1, ct_wc3, ct_wc3i, ct_wc0, ct_wc0i, ct_wr0, true_and, forall_eq]
    refine br_f (by omega) ?_
    have := ih (i + 1) (by omega) (by omega)
    rw [← ct_fill_up h0] at this
    exact this
/-- what is needed: the six roots' pages -/
def ct_us6 (A : Nat → Int → Int) (D : Nat → Nat) (q : Int) : Prop := q ∈ ct_RPs A D 0 4 ∨ q ∈ ct_MPs A D 0 2
theorem ct_findUsed {post : St1 → Prop} {A : Nat → Int → Int} {D : Nat → Nat} (hr : ∀ k : Nat, k < 4 → ct_rt A (D k) (A 11 k)) (hm : ∀ m : Nat, m < 2 → A 10 m = 0 ∨ (A 10 m = 1 ∧ ct_rt A (D (4 + m)) (A 7 m))) (hp : ∀ f g, (∀ q, ct_us6 A D q → g q = 1) → (∀ q, ¬ ct_us6 A D q → 0 ≤ q → q < 100 → g q = 0) → post (ct_lf (ct_st (ct_st A 6 g) 16 f))) : wpX_findUsed post (ct_lf A) := by
  unfold wpX_findUsed ct_lf
  dsimp only
  refine ⟨101, ?_⟩
  have := ct_findUsed_2 (post := post) (A := A) (fun g hg => ⟨5, by
    have := ct_findUsed_23 (post := post) (A := A) (D := D) hr hm 4 0 [] (A 16) g (by omega) (by simp) (fun q _ h0 h1 => hg q h0 h1) (fun f' g' k1 k2 => hp f' g' (fun q hq => k1 q (by simpa [ct_us6] using hq)) (fun q hq => k2 q (by simpa [ct_us6] using hq)))
    exact this⟩) 100 0 (by omega) (by omega)
  rw [ct_fill_0] at this
  exact this
end
section
/-! ===== 08: a new page, a fresh copy ===== -/
theorem ct_pigeon : ∀ (n : Nat) (L : List Int), (∀ c : Int, 0 ≤ c → c < n → c ∈ L) → n ≤ L.length := by
  intro n
  induction n with
  | zero => intro L _; omega
  | succ n ih =>
    intro L h
    have hm := h n (by omega) (by omega)
    have := ih (L.erase (n : Int)) (fun c h0 h1 => (List.mem_erase_of_ne (by omega)).mpr (h c h0 (by omega)))
    rw [List.length_erase_of_mem hm] at this
    have hpos : 0 < L.length := List.length_pos_of_mem hm
    omega
theorem ct_free {L : List Int} (h : L.length < 100) : ∃ c : Int, 0 ≤ c ∧ c < 100 ∧ c ∉ L := by
  apply Classical.byContradiction
  intro hn
  have := ct_pigeon 100 L (fun c h0 h1 => Classical.byContradiction (fun hc => hn ⟨c, h0, h1, hc⟩))
  omega
def ct_new (A : Nat → Int → Int) (c : Int) (g f : Int → Int) : Nat → Int → Int := ct_st (ct_st (ct_st (ct_st (ct_st A 6 g) 16 f) 5 (ct_up (A 5) c 1)) 1 (ct_up (A 1) c 0)) 4 (ct_up (A 4) (6 * c) (-1))
theorem ct_newPage_36 {post : Int32 → St1 → Prop} {A : Nat → Int → Int} {c : Int} {f g : Int → Int} (h0 : 0 ≤ c) (h1 : c < 100) (hp : post (ct_i c) (ct_lf (ct_new A c g f))) : wX_newPage_36 post (ct_i c) (ct_i (A 0 0)) (ct_c ((ct_st (ct_st A 6 g) 16 f) 1)) (ct_c ((ct_st (ct_st A 6 g) 16 f) 2)) (ct_a ((ct_st (ct_st A 6 g) 16 f) 3)) (ct_c ((ct_st (ct_st A 6 g) 16 f) 4)) (ct_a ((ct_st (ct_st A 6 g) 16 f) 5)) (ct_a ((ct_st (ct_st A 6 g) 16 f) 6)) (ct_c ((ct_st (ct_st A 6 g) 16 f) 7)) (ct_c ((ct_st (ct_st A 6 g) 16 f) 8)) (ct_a ((ct_st (ct_st A 6 g) 16 f) 9)) (ct_a ((ct_st (ct_st A 6 g) 16 f) 10)) (ct_c ((ct_st (ct_st A 6 g) 16 f) 11)) (ct_c ((ct_st (ct_st A 6 g) 16 f) 12)) (ct_a ((ct_st (ct_st A 6 g) 16 f) 13)) (ct_c ((ct_st (ct_st A 6 g) 16 f) 14)) (ct_c ((ct_st (ct_st A 6 g) 16 f) 15)) (ct_c ((ct_st (ct_st A 6 g) 16 f) 16)) := by
  unfold wX_newPage_36
  simp (disch := omega) only [ct_l0, ct_l1, ct_l2, ct_l3, ct_l4, ct_l5, ct_l6, ct_l24, ct_l25, ct_l99, ct_l100, ct_neg, ct_add, ct_sub, ct_mul, ct_inT, ct_rd, ct_rc, ct_wr, ct_wc, ct_wci, ct_bI, ct_nb, ct_nbi, ct_tb, ct_le, ct_lt, ct_eq, ct_rc0, ct_rc1, ct_rc3, ct_rd0, ct_rd1, ct_wc3, ct_wc3i, ct_wc0, ct_wc0i, ct_wr0, true_and, forall_eq]
  exact hp
theorem ct_newPage_6 {post : Int32 → St1 → Prop} {A : Nat → Int → Int} {c0 : Int} {f g : Int → Int} (hc : c0 < 100) (hg0 : g c0 = 0) (hf0 : A 5 c0 = 0) (hg : ∀ q, 0 ≤ q → q < 100 → g q = 0 ∨ g q = 1) (h5 : ∀ q, 0 ≤ A 5 q ∧ A 5 q ≤ 1) (hp : ∀ c, 0 ≤ c → c < 100 → g c = 0 → A 5 c = 0 → post (ct_i c) (ct_lf (ct_new A c g f))) : ∀ (m : Nat) (i : Int), 0 ≤ i → i + m = c0 → wX_newPage_6 post (ct_i (A 0 0)) (ct_c ((ct_st (ct_st A 6 g) 16 f) 1)) (ct_c ((ct_st (ct_st A 6 g) 16 f) 2)) (ct_a ((ct_st (ct_st A 6 g) 16 f) 3)) (ct_c ((ct_st (ct_st A 6 g) 16 f) 4)) (ct_a ((ct_st (ct_st A 6 g) 16 f) 5)) (ct_a ((ct_st (ct_st A 6 g) 16 f) 6)) (ct_c ((ct_st (ct_st A 6 g) 16 f) 7)) (ct_c ((ct_st (ct_st A 6 g) 16 f) 8)) (ct_a ((ct_st (ct_st A 6 g) 16 f) 9)) (ct_a ((ct_st (ct_st A 6 g) 16 f) 10)) (ct_c ((ct_st (ct_st A 6 g) 16 f) 11)) (ct_c ((ct_st (ct_st A 6 g) 16 f) 12)) (ct_a ((ct_st (ct_st A 6 g) 16 f) 13)) (ct_c ((ct_st (ct_st A 6 g) 16 f) 14)) (ct_c ((ct_st (ct_st A 6 g) 16 f) 15)) (ct_c ((ct_st (ct_st A 6 g) 16 f) 16)) (m + 1) (ct_i i) := by
  intro m
  induction m with
  | zero =>
    intro i hi0 hi
    have e : i = c0 := by omega
    subst e
    have hn := ct_newPage_36 hi0 hc (hp i hi0 hc hg0 hf0)
    have e6 : ct_a g (ct_i i).toNatClampNeg = ct_i (g i) := ct_rd hi0 (by omega)
    have e5 : ct_a (A 5) (ct_i i).toNatClampNeg = ct_i (A 5 i) := ct_rd hi0 (by omega)
    unfold wX_newPage_6
    refine br_c (fun _ => hn) (fun _ => ⟨ct_in hi0 (by omega) (by decide), br_t ?_ ⟨ct_in hi0 (by omega) (by decide), br_t ?_ hn⟩⟩)
    · show ct_a g (ct_i i).toNatClampNeg = 0
      rw [e6, hg0]; rfl
    · show ct_a (A 5) (ct_i i).toNatClampNeg = 0
      rw [e5, hf0]; rfl
  | succ m ih =>
    intro i hi0 hi
    have e6 : ct_a g (ct_i i).toNatClampNeg = ct_i (g i) := ct_rd hi0 (by omega)
    have e5 : ct_a (A 5) (ct_i i).toNatClampNeg = ct_i (A 5 i) := ct_rd hi0 (by omega)
    have e1 : ct_i i + 1 = ct_i (i + 1) := ct_add i 1
    have hgi := hg i hi0 (by omega)
    have h5i := h5 i
    have hih := ih (i + 1) (by omega) (by omega)
    unfold wX_newPage_6
    refine br_f ?_ ⟨ct_in hi0 (by omega) (by decide), ?_⟩
    · show ¬ ct_i 99 ≤ ct_i i
      rw [ct_le (by omega) (by omega) (by omega) (by omega)]; omega
    · rcases hgi with h | h
      · refine br_t ?_ ⟨ct_in hi0 (by omega) (by decide), ?_⟩
        · show ct_a g (ct_i i).toNatClampNeg = 0
          rw [e6, h]; rfl
        · by_cases h5e : A 5 i = 0
          · refine br_t ?_ (ct_newPage_36 hi0 (by omega) (hp i hi0 (by omega) h h5e))
            show ct_a (A 5) (ct_i i).toNatClampNeg = 0
            rw [e5, h5e]; rfl
          · refine br_f ?_ (nm_r e1 hih)
            show ¬ ct_a (A 5) (ct_i i).toNatClampNeg = 0
            rw [e5, show A 5 i = 1 by omega]; decide
      · refine br_f ?_ (nm_r e1 hih)
        show ¬ ct_a g (ct_i i).toNatClampNeg = 0
        rw [e6, h]; decide
theorem ct_newPage {post : Int32 → St1 → Prop} {A : Nat → Int → Int} {D : Nat → Nat} (hr : ∀ k : Nat, k < 4 → ct_rt A (D k) (A 11 k)) (hm : ∀ m : Nat, m < 2 → A 10 m = 0 ∨ (A 10 m = 1 ∧ ct_rt A (D (4 + m)) (A 7 m))) (h5 : ∀ q, 0 ≤ A 5 q ∧ A 5 q ≤ 1) (L : List Int) (hL : L.length < 100) (hU : ∀ q, ct_us6 A D q → q ∈ L) (hF : ∀ q, 0 ≤ q → q < 100 → A 5 q ≠ 0 → q ∈ L) (hp : ∀ c f g, 0 ≤ c → c < 100 → ¬ ct_us6 A D c → A 5 c = 0 → post (ct_i c) (ct_lf (ct_new A c g f))) : wpX_newPage post (ct_lf A) := by
  obtain ⟨c0, hc0, hc1, hcL⟩ := ct_free hL
  unfold wpX_newPage
  refine ct_findUsed (D := D) hr hm (fun f g hg1 hg2 => ?_)
  refine ⟨c0.toNat + 1, ?_⟩
  have := ct_newPage_6 (post := post) (A := A) (c0 := c0) (f := f) (g := g) hc1 (hg2 c0 (fun h => hcL (hU c0 h)) hc0 hc1) (Classical.byContradiction (fun h => hcL (hF c0 hc0 hc1 h))) (fun q h0 h1 => by
    by_cases h : ct_us6 A D q
    · exact Or.inr (hg1 q h)
    · exact Or.inl (hg2 q h h0 h1)) h5 (fun c h0 h1 hg hf => hp c f g h0 h1 (fun h => by rw [hg1 c h] at hg; omega) hf) c0.toNat 0 (by omega) (by omega)
  exact this
/-- the copy c of page x -/
def ct_fc (A : Nat → Int → Int) (x c : Int) (g f : Int → Int) : Nat → Int → Int := ct_st (ct_st (ct_st (ct_st (ct_new A c g f) 1 (ct_up (ct_up (A 1) c 0) c (A 1 x))) 2 (ct_cp (A 2) (5 * c) (5 * x) 5)) 3 (ct_cp (A 3) (5 * c) (5 * x) 5)) 4 (ct_cp (ct_up (A 4) (6 * c) (-1)) (6 * c) (6 * x) 6)
theorem ct_freshCopy_83 {post : Int32 → St1 → Prop} {A : Nat → Int → Int} {x c : Int} (h0 : 0 ≤ x) (h1 : x < 100) (h2 : 0 ≤ c) (h3 : c < 100) (hne : x ≠ c) (hp : post (ct_i c) (ct_lf (ct_st A 4 (ct_cp (A 4) (6 * c) (6 * x) 6)))) : ∀ (m : Nat) (i : Int), 0 ≤ i → i + m = 6 → wX_freshCopy_83 post (ct_i x) (ct_i c) (ct_i (A 0 0)) (m + 1) (ct_i i) (ct_c ((ct_st A 4 (ct_cp (A 4) (6 * c) (6 * x) i)) 1)) (ct_c ((ct_st A 4 (ct_cp (A 4) (6 * c) (6 * x) i)) 2)) (ct_a ((ct_st A 4 (ct_cp (A 4) (6 * c) (6 * x) i)) 3)) (ct_c ((ct_st A 4 (ct_cp (A 4) (6 * c) (6 * x) i)) 4)) (ct_a ((ct_st A 4 (ct_cp (A 4) (6 * c) (6 * x) i)) 5)) (ct_a ((ct_st A 4 (ct_cp (A 4) (6 * c) (6 * x) i)) 6)) (ct_c ((ct_st A 4 (ct_cp (A 4) (6 * c) (6 * x) i)) 7)) (ct_c ((ct_st A 4 (ct_cp (A 4) (6 * c) (6 * x) i)) 8)) (ct_a ((ct_st A 4 (ct_cp (A 4) (6 * c) (6 * x) i)) 9)) (ct_a ((ct_st A 4 (ct_cp (A 4) (6 * c) (6 * x) i)) 10)) (ct_c ((ct_st A 4 (ct_cp (A 4) (6 * c) (6 * x) i)) 11)) (ct_c ((ct_st A 4 (ct_cp (A 4) (6 * c) (6 * x) i)) 12)) (ct_a ((ct_st A 4 (ct_cp (A 4) (6 * c) (6 * x) i)) 13)) (ct_c ((ct_st A 4 (ct_cp (A 4) (6 * c) (6 * x) i)) 14)) (ct_c ((ct_st A 4 (ct_cp (A 4) (6 * c) (6 * x) i)) 15)) (ct_c ((ct_st A 4 (ct_cp (A 4) (6 * c) (6 * x) i)) 16)) := by
  intro m
  induction m with
  | zero =>
    intro i hi0 hi
    have e : i = 6 := by omega
    subst e
    unfold wX_freshCopy_83
    exact br_t (by decide) hp
  | succ m ih =>
    intro i hi0 hi
    unfold wX_freshCopy_83
    refine br_f ?_ ?_
    · show ¬ ct_i 6 ≤ ct_i i
      rw [ct_le (by omega) (by omega) (by omega) (by omega)]; omega
    · simp (disch := omega) only [ct_l0, ct_l1, ct_l2, ct_l3, ct_l4, ct_l5, ct_l6, ct_l24, ct_l25, ct_l99, ct_l100, ct_neg, ct_add, ct_sub, ct_mul, ct_inT, ct_rd, ct_rc, ct_wr, ct_wc, ct_wci, ct_bI, ct_nb, ct_nbi, ct_tb, ct_le, ct_lt, ct_eq, ct_rc0, ct_rc1, ct_rc3, ct_rd0, ct_rd1, ct_wc3, ct_wc3i, ct_wc0, ct_wc0i, ct_wr0, true_and, forall_eq]
      have := ih (i + 1) (by omega) (by omega)
      rw [← ct_cp_up hi0 (by omega)] at this
      exact this
theorem ct_freshCopy_30 {post : Int32 → St1 → Prop} {A : Nat → Int → Int} {x c : Int} (h0 : 0 ≤ x) (h1 : x < 100) (h2 : 0 ≤ c) (h3 : c < 100) (hne : x ≠ c) (hp : post (ct_i c) (ct_lf (ct_st (ct_st (ct_st A 2 (ct_cp (A 2) (5 * c) (5 * x) 5)) 3 (ct_cp (A 3) (5 * c) (5 * x) 5)) 4 (ct_cp (A 4) (6 * c) (6 * x) 6)))) : ∀ (m : Nat) (i : Int), 0 ≤ i → i + m = 5 → wX_freshCopy_30 post (ct_i x) (ct_i c) (ct_i (A 0 0)) (m + 1) (ct_i i) (ct_c ((ct_st (ct_st A 2 (ct_cp (A 2) (5 * c) (5 * x) i)) 3 (ct_cp (A 3) (5 * c) (5 * x) i)) 1)) (ct_c ((ct_st (ct_st A 2 (ct_cp (A 2) (5 * c) (5 * x) i)) 3 (ct_cp (A 3) (5 * c) (5 * x) i)) 2)) (ct_a ((ct_st (ct_st A 2 (ct_cp (A 2) (5 * c) (5 * x) i)) 3 (ct_cp (A 3) (5 * c) (5 * x) i)) 3)) (ct_c ((ct_st (ct_st A 2 (ct_cp (A 2) (5 * c) (5 * x) i)) 3 (ct_cp (A 3) (5 * c) (5 * x) i)) 4)) (ct_a ((ct_st (ct_st A 2 (ct_cp (A 2) (5 * c) (5 * x) i)) 3 (ct_cp (A 3) (5 * c) (5 * x) i)) 5)) (ct_a ((ct_st (ct_st A 2 (ct_cp (A 2) (5 * c) (5 * x) i)) 3 (ct_cp (A 3) (5 * c) (5 * x) i)) 6)) (ct_c ((ct_st (ct_st A 2 (ct_cp (A 2) (5 * c) (5 * x) i)) 3 (ct_cp (A 3) (5 * c) (5 * x) i)) 7)) (ct_c ((ct_st (ct_st A 2 (ct_cp (A 2) (5 * c) (5 * x) i)) 3 (ct_cp (A 3) (5 * c) (5 * x) i)) 8)) (ct_a ((ct_st (ct_st A 2 (ct_cp (A 2) (5 * c) (5 * x) i)) 3 (ct_cp (A 3) (5 * c) (5 * x) i)) 9)) (ct_a ((ct_st (ct_st A 2 (ct_cp (A 2) (5 * c) (5 * x) i)) 3 (ct_cp (A 3) (5 * c) (5 * x) i)) 10)) (ct_c ((ct_st (ct_st A 2 (ct_cp (A 2) (5 * c) (5 * x) i)) 3 (ct_cp (A 3) (5 * c) (5 * x) i)) 11)) (ct_c ((ct_st (ct_st A 2 (ct_cp (A 2) (5 * c) (5 * x) i)) 3 (ct_cp (A 3) (5 * c) (5 * x) i)) 12)) (ct_a ((ct_st (ct_st A 2 (ct_cp (A 2) (5 * c) (5 * x) i)) 3 (ct_cp (A 3) (5 * c) (5 * x) i)) 13)) (ct_c ((ct_st (ct_st A 2 (ct_cp (A 2) (5 * c) (5 * x) i)) 3 (ct_cp (A 3) (5 * c) (5 * x) i)) 14)) (ct_c ((ct_st (ct_st A 2 (ct_cp (A 2) (5 * c) (5 * x) i)) 3 (ct_cp (A 3) (5 * c) (5 * x) i)) 15)) (ct_c ((ct_st (ct_st A 2 (ct_cp (A 2) (5 * c) (5 * x) i)) 3 (ct_cp (A 3) (5 * c) (5 * x) i)) 16)) := by
  intro m
  induction m with
  | zero =>
    intro i hi0 hi
    have e : i = 5 := by omega
    subst e
    unfold wX_freshCopy_30
    refine br_t (by decide) ⟨7, ?_⟩
    have := ct_freshCopy_83 (post := post) (A := ct_st (ct_st A 2 (ct_cp (A 2) (5 * c) (5 * x) 5)) 3 (ct_cp (A 3) (5 * c) (5 * x) 5)) h0 h1 h2 h3 hne hp 6 0 (by omega) (by omega)
    rw [ct_cp_0] at this
    exact this
  | succ m ih =>
    intro i hi0 hi
    unfold wX_freshCopy_30
    refine br_f ?_ ?_
    · show ¬ ct_i 5 ≤ ct_i i
      rw [ct_le (by omega) (by omega) (by omega) (by omega)]; omega
    · simp (disch := omega) only [ct_l0, ct_l1, ct_l2, ct_l3, ct_l4, ct_l5, ct_l6, ct_l24, ct_l25, ct_l99, ct_l100, ct_neg, ct_add, ct_sub, ct_mul, ct_inT, ct_rd, ct_rc, ct_wr, ct_wc, ct_wci, ct_bI, ct_nb, ct_nbi, ct_tb, ct_le, ct_lt, ct_eq, ct_rc0, ct_rc1, ct_rc3, ct_rd0, ct_rd1, ct_wc3, ct_wc3i, ct_wc0, ct_wc0i, ct_wr0, true_and, forall_eq]
      have := ih (i + 1) (by omega) (by omega)
      rw [← ct_cp_up hi0 (by omega), ← ct_cp_up hi0 (by omega)] at this
      exact this
theorem ct_freshCopy {post : Int32 → St1 → Prop} {A : Nat → Int → Int} {D : Nat → Nat} {x : Int} (h0 : 0 ≤ x) (h1 : x < 100) (hr : ∀ k : Nat, k < 4 → ct_rt A (D k) (A 11 k)) (hm : ∀ m : Nat, m < 2 → A 10 m = 0 ∨ (A 10 m = 1 ∧ ct_rt A (D (4 + m)) (A 7 m))) (h5 : ∀ q, 0 ≤ A 5 q ∧ A 5 q ≤ 1) (L : List Int) (hL : L.length < 100) (hU : ∀ q, ct_us6 A D q → q ∈ L) (hF : ∀ q, 0 ≤ q → q < 100 → A 5 q ≠ 0 → q ∈ L) (hx : A 5 x = 0 → ct_us6 A D x)
    (hp1 : A 5 x = 1 → post (ct_i x) (ct_lf A)) (hp2 : A 5 x = 0 → ∀ c f g, 0 ≤ c → c < 100 → ¬ ct_us6 A D c → A 5 c = 0 → c ≠ x → post (ct_i c) (ct_lf (ct_fc A x c g f))) : wpX_freshCopy post (ct_lf A) (ct_i x) := by
  have h5x := h5 x
  have e5 : ct_a (A 5) (ct_i x).toNatClampNeg = ct_i (A 5 x) := ct_rd h0 (by omega)
  unfold wpX_freshCopy ct_lf
  dsimp only
  refine ⟨ct_in h0 (by omega) (by decide), ?_⟩
  by_cases h : A 5 x = 0
  · refine br_t (by rw [e5, h]; rfl) ?_
    refine ct_newPage (D := D) hr hm h5 L hL hU hF (fun c f g hc0 hc1 hcu hcf => ?_)
    have hne : c ≠ x := fun e => hcu (e ▸ hx h)
    have hp := hp2 h c f g hc0 hc1 hcu hcf hne
    refine ⟨ct_in h0 (by omega) (by decide), ct_in hc0 (by omega) (by decide), ?_⟩
    refine nm_r (e' := ct_c (ct_up (ct_up (A 1) c 0) c (A 1 x))) ?_ ⟨6, ?_⟩
    · show upd (ct_c (ct_up (A 1) c 0)) (ct_i c).toNatClampNeg (vp_nar .byte (ct_c (ct_up (A 1) c 0) (ct_i x).toNatClampNeg)) = _
      rw [ct_rc h0 (by omega), ct_nb, ct_wc hc0 (by omega), ct_un (fun e => hne e.symm)]
    · have := ct_freshCopy_30 (post := post) (A := ct_st (ct_new A c g f) 1 (ct_up (ct_up (A 1) c 0) c (A 1 x))) h0 h1 hc0 hc1 (fun e => hne e.symm) hp 5 0 (by omega) (by omega)
      rw [ct_cp_0, ct_cp_0] at this
      exact this
  · have e : A 5 x = 1 := by omega
    exact br_f (by rw [e5, e]; decide) (hp1 e)
theorem ct_nd_new {A : Nat → Int → Int} {c q : Int} {g f : Int → Int} (h : q ≠ c) : ct_nd (ct_new A c g f) q = ct_nd A q := by
  refine ct_nd_cg (ct_un h) (fun j _ _ => ⟨rfl, rfl⟩) (fun j _ _ => ct_un (by omega))
theorem ct_nd_new_c {A : Nat → Int → Int} {c : Int} {g f : Int → Int} : ct_nd (ct_new A c g f) c = ([], []) := by
  refine ct_nd_mk (n := 0) ct_us (by omega) rfl (Or.inl ⟨?_, rfl⟩)
  show ct_up (A 4) (6 * c) (-1) (6 * c) < 0
  rw [ct_us]; decide
theorem ct_cp_in {f : Int → Int} {d s n j : Int} (h0 : 0 ≤ j) (h1 : j < n) : ct_cp f d s n (d + j) = f (s + j) := by
  unfold ct_cp
  rw [if_pos (by omega)]
  congr 1
  omega
theorem ct_cp_out {f : Int → Int} {d s n j : Int} (h : j < d ∨ d + n ≤ j) : ct_cp f d s n j = f j := by
  unfold ct_cp
  rw [if_neg (by omega)]
theorem ct_nd_fc {A : Nat → Int → Int} {x c q : Int} {g f : Int → Int} (h : q ≠ c) : ct_nd (ct_fc A x c g f) q = ct_nd A q := by
  refine ct_nd_cg ?_ (fun j _ _ => ⟨?_, ?_⟩) (fun j _ _ => ?_)
  · show ct_up (ct_up (A 1) c 0) c (A 1 x) q = A 1 q
    rw [ct_un h, ct_un h]
  · exact ct_cp_out (by omega)
  · exact ct_cp_out (by omega)
  · show ct_cp (ct_up (A 4) (6 * c) (-1)) (6 * c) (6 * x) 6 j = A 4 j
    rw [ct_cp_out (by omega), ct_un (by omega)]
theorem ct_nd_fc_c {A : Nat → Int → Int} {x c : Int} {g f : Int → Int} (h : x ≠ c) : ct_nd (ct_fc A x c g f) c = ct_nd A x := by
  have h1 : ct_fc A x c g f 1 c = A 1 x := ct_us
  have hk : ct_kn (ct_fc A x c g f) c = ct_kn A x := by unfold ct_kn; rw [h1]
  have hl : ct_kn A x ≤ 5 := by unfold ct_kn; omega
  have h4 : ∀ j, 0 ≤ j → j < 6 → ct_fc A x c g f 4 (6 * c + j) = A 4 (6 * x + j) := by
    intro j hj0 hj1
    show ct_cp (ct_up (A 4) (6 * c) (-1)) (6 * c) (6 * x) 6 (6 * c + j) = A 4 (6 * x + j)
    rw [ct_cp_in hj0 hj1, ct_un (by omega)]
  unfold ct_nd
  have e0 := h4 0 (by omega) (by omega)
  rw [Int.add_zero, Int.add_zero] at e0
  rw [hk, e0]
  have e1 : ct_sg (fun j => (ct_fc A x c g f 2 j, ct_fc A x c g f 3 j)) (5 * c) (ct_kn A x) = ct_sg (fun j => (A 2 j, A 3 j)) (5 * x) (ct_kn A x) := by
    refine ct_sg_cg _ _ _ (fun j hj hn => ?_)
    show (ct_cp (A 2) (5 * c) (5 * x) 5 (5 * c + j), ct_cp (A 3) (5 * c) (5 * x) 5 (5 * c + j)) = _
    rw [ct_cp_in hj (by omega), ct_cp_in hj (by omega)]
  have e2 : ct_sg (ct_fc A x c g f 4) (6 * c) (ct_kn A x + 1) = ct_sg (A 4) (6 * x) (ct_kn A x + 1) := by
    refine ct_sg_cg _ _ _ (fun j hj hn => ?_)
    exact h4 j hj (by omega)
  rw [e1, e2]
end
section
/-! ===== 09: looking: the way down ===== -/
theorem ct_spi {α : Type} : ∀ (l : List α) (i : Nat), i < l.length → ∃ l1 e l2, l = l1 ++ e :: l2 ∧ l1.length = i := by
  intro l
  induction l with
  | nil => intro i h; simp at h
  | cons a l ih =>
    intro i h
    cases i with
    | zero => exact ⟨[], a, l, rfl, rfl⟩
    | succ i =>
      obtain ⟨l1, e, l2, h1, h2⟩ := ih i (by simpa using h)
      exact ⟨a :: l1, e, l2, by rw [h1]; rfl, by simp [h2]⟩
/-- the first place that fails p -/
theorem ct_cut {α : Type} (p : α → Prop) : ∀ (l : List α), ∃ la lb, l = la ++ lb ∧ (∀ e, e ∈ la → p e) ∧ (∀ e lb', lb = e :: lb' → ¬ p e) := by
  intro l
  induction l with
  | nil => exact ⟨[], [], rfl, by simp, by simp⟩
  | cons a l ih =>
    by_cases h : p a
    · obtain ⟨la, lb, h1, h2, h3⟩ := ih
      refine ⟨a :: la, lb, by rw [h1]; rfl, ?_, h3⟩
      intro e he
      rcases List.mem_cons.mp he with he | he
      · rw [he]; exact h
      · exact h2 e he
    · refine ⟨[], a :: l, rfl, by simp, ?_⟩
      intro e lb' he
      rw [← (List.cons.inj he).1]; exact h
def ct_Wy (f g : Int → Int) : List ct_Fr → Prop
  | [] => True
  | fr :: fs => f (fs.length : Int) = fr.1 ∧ g (fs.length : Int) = (fr.2.1.1.length : Int) ∧ ct_Wy f g fs
theorem ct_Wy_up {f g : Int → Int} {v w : Int} : ∀ (fs : List ct_Fr) (k l : Int), (fs.length : Int) ≤ k → (fs.length : Int) ≤ l → ct_Wy f g fs → ct_Wy (ct_up f k v) (ct_up g l w) fs := by
  intro fs
  induction fs with
  | nil => intro k l _ _ _; trivial
  | cons s fs ih =>
    intro k l hk hl h
    simp only [List.length_cons] at hk hl
    exact ⟨by rw [ct_un (by omega)]; exact h.1, by rw [ct_un (by omega)]; exact h.2.1, ih k l (by omega) (by omega) h.2.2⟩
/-- A with another way -/
def ct_wy (A : Nat → Int → Int) (n : Int) (f g : Int → Int) : Nat → Int → Int := ct_st (ct_st (ct_st A 0 (fun _ => n)) 14 f) 15 g
theorem ct_pushWy {post : St1 → Prop} {A : Nat → Int → Int} {n x i : Int} {f g : Int → Int} (h0 : 0 ≤ n) (h8 : n < 8) (hp : post (ct_lf (ct_wy A (n + 1) (ct_up f n x) (ct_up g n i)))) : wpX_pushWay post (ct_lf (ct_wy A n f g)) (ct_i x) (ct_i i) := by
  refine ct_pushWay h0 h8 ?_
  exact hp
def ct_so (W : List ct_KV) : Prop := W.Pairwise (fun a b => a.1 < b.1)
theorem ct_zl_lt {key : Int} : ∀ (ka : List ct_KV) (ca : List (List ct_KV)), ct_so (ct_zl ka ca) → (∀ e, e ∈ ka → e.1 < key) → ∀ a, a ∈ ct_zl ka ca → a.1 < key := by
  intro ka
  induction ka with
  | nil => intro ca _ _ a ha; simp [ct_zl] at ha
  | cons k ks ih =>
    intro ca hs hk a ha
    cases ca with
    | nil => simp [ct_zl] at ha
    | cons c cs =>
      simp only [ct_zl] at ha hs
      unfold ct_so at hs
      rw [List.pairwise_append, List.pairwise_cons] at hs
      simp only [List.mem_append, List.mem_cons] at ha
      rcases ha with ha | ha | ha
      · have := hs.2.2 a ha k (by simp)
        have := hk k (by simp)
        omega
      · rw [ha]; exact hk k (by simp)
      · exact ih cs hs.2.1.2 (fun e he => hk e (by simp [he])) a ha
theorem ct_zl_le {key : Int} : ∀ (ka : List ct_KV) (ca : List (List ct_KV)), ct_so (ct_zl ka ca) → (∀ e, e ∈ ka → e.1 ≤ key) → ∀ a, a ∈ ct_zl ka ca → a.1 ≤ key := by
  intro ka ca h1 h2 a ha
  have := ct_zl_lt (key := key + 1) ka ca h1 (fun e he => by have := h2 e he; omega) a ha
  omega
theorem ct_zr_gt {key : Int} : ∀ (kb : List ct_KV) (cb : List (List ct_KV)), ct_so (ct_zr kb cb) → (∀ e kb', kb = e :: kb' → key < e.1) → ∀ a, a ∈ ct_zr kb cb → key < a.1 := by
  intro kb cb hs hk a ha
  cases kb with
  | nil => simp [ct_zr] at ha
  | cons k ks =>
    cases cb with
    | nil => simp [ct_zr] at ha
    | cons c cs =>
      have := hk k ks rfl
      simp only [ct_zr] at ha hs
      unfold ct_so at hs
      rw [List.pairwise_cons] at hs
      rcases List.mem_cons.mp ha with ha | ha
      · rw [ha]; exact this
      · have := hs.1 a ha; omega
theorem ct_zr_mem {e : ct_KV} : ∀ (kb : List ct_KV) (cb : List (List ct_KV)), kb.length = cb.length → e ∈ kb → e ∈ ct_zr kb cb := by
  intro kb
  induction kb with
  | nil => intro cb _ h; simp at h
  | cons k ks ih =>
    intro cb hl h
    cases cb with
    | nil => simp at hl
    | cons c cs =>
      simp only [ct_zr]
      rcases List.mem_cons.mp h with h | h
      · rw [h]; simp
      · have := ih cs (by simpa using hl) h
        simp [this]
theorem ct_fl_mem {H : ct_Hp} {d : Nat} {x : Int} {e : ct_KV} (hs : ct_sh H d x) (h : e ∈ (H x).1) : e ∈ ct_fl H d x := by
  cases d with
  | zero => exact h
  | succ d =>
    simp only [ct_sh] at hs
    simp only [ct_fl]
    cases hc : (H x).2 with
    | nil => rw [hc] at hs; simp at hs
    | cons c cs =>
      rw [hc] at hs
      simp only [List.map_cons, ct_wv]
      refine List.mem_append.mpr (Or.inr (ct_zr_mem _ _ ?_ h))
      have := hs.1
      simp at this ⊢
      omega
theorem ct_so_app {a b : List ct_KV} (h : ct_so (a ++ b)) : ct_so a ∧ ct_so b ∧ ∀ x, x ∈ a → ∀ y, y ∈ b → x.1 < y.1 := by
  unfold ct_so at *
  rw [List.pairwise_append] at h
  exact h
/-- a node cut at a place, its content -/
theorem ct_fl_cut {H : ct_Hp} {d : Nat} {x c : Int} {ka kb : List ct_KV} {ca cb : List Int} (h : H x = (ka ++ kb, ca ++ c :: cb)) (hl : ka.length = ca.length) : ct_fl H (d + 1) x = ct_zl ka (ca.map (ct_fl H d)) ++ (ct_fl H d c ++ ct_zr kb (cb.map (ct_fl H d))) := by
  simp only [ct_fl, h, List.map_append, List.map_cons]
  exact ct_wv_mid (by simpa using hl)
theorem ct_split_at {α : Type} {cs : List α} {n m : Nat} (h : cs.length = n + m + 1) : ∃ ca c cb, cs = ca ++ c :: cb ∧ ca.length = n ∧ cb.length = m := by
  obtain ⟨ca, c, cb, h1, h2⟩ := ct_spi cs n (by omega)
  refine ⟨ca, c, cb, h1, h2, ?_⟩
  rw [h1] at h
  simp at h
  omega
/-- keys as bytes, values in reach, their sum even -/
def ct_gd (W : List ct_KV) : Prop := ∀ e, e ∈ W → 0 ≤ e.1 ∧ e.1 < 100 ∧ 0 ≤ e.2 ∧ e.2 < 1048576 ∧ (e.1 + e.2) % 2 = 0
/-- a tree at the root r with content W -/
def ct_T (A : Nat → Int → Int) (D : Nat) (r : Int) (W : List ct_KV) : Prop :=
  ct_sh (ct_nd A) D r ∧ 1 ≤ (ct_nd A r).1.length ∧ (ct_nd A r).1.length ≤ 4 ∧ (∀ q, q ∈ ct_pg (ct_nd A) D r → 0 ≤ q ∧ q < 100) ∧ (ct_pg (ct_nd A) D r).Nodup ∧ (∀ q, q ∈ ct_pg (ct_nd A) D r → -128 ≤ A 4 (6 * q)) ∧ ct_fl (ct_nd A) D r = W
/-- where a way ends: frames fs, page x of depth d, cut at the place -/
def ct_At (A : Nat → Int → Int) (D : Nat) (r : Int) (fs : List ct_Fr) (d : Nat) (x : Int) (ka kb : List ct_KV) (f g : Int → Int) : Prop :=
  d + fs.length = D ∧ ct_Cx (ct_nd A) d fs x r ∧ ct_sh (ct_nd A) d x ∧ ct_lo fs ≤ (ct_nd A x).1.length ∧ (ct_nd A x).1.length ≤ 4 ∧ (ct_nd A x).1 = ka ++ kb ∧ ct_Wy f g fs ∧ f (fs.length : Int) = x ∧ g (fs.length : Int) = (ka.length : Int)
theorem ct_find_14 {post : Int32 → St1 → Prop} {J : Int32 → Int32 → (Nat → Int32) → (Nat → Int32) → (Nat → Int32) → (Nat → Int32) → (Nat → Int32) → (Nat → Int32) → (Nat → Int32) → (Nat → Int32) → (Nat → Int32) → (Nat → Int32) → (Nat → Int32) → (Nat → Int32) → (Nat → Int32) → (Nat → Int32) → (Nat → Int32) → (Nat → Int32) → Prop} {A : Nat → Int → Int} {key x : Int} {ka kb : List ct_KV} (h0 : 0 ≤ x) (h1 : x < 100) (hkey : 0 ≤ key ∧ key < 100) (hnd : (ct_nd A x).1 = ka ++ kb) (hl1 : 1 ≤ (ct_nd A x).1.length) (hl2 : (ct_nd A x).1.length ≤ 4) (hgd : ∀ e, e ∈ ka ++ kb → 0 ≤ e.1 ∧ e.1 < 100) (hka : ∀ e, e ∈ ka → e.1 < key) (hkb : ∀ e kb', kb = e :: kb' → ¬ e.1 < key)
    (hp : wX_find_46 post J (ct_i key) (ct_i x) (ct_i (ka.length : Int)) (ct_i (A 0 0)) (ct_c (A 1)) (ct_c (A 2)) (ct_a (A 3)) (ct_c (A 4)) (ct_a (A 5)) (ct_a (A 6)) (ct_c (A 7)) (ct_c (A 8)) (ct_a (A 9)) (ct_a (A 10)) (ct_c (A 11)) (ct_c (A 12)) (ct_a (A 13)) (ct_c (A 14)) (ct_c (A 15)) (ct_c (A 16))) : ∀ (m i : Nat), i + m = ka.length → wX_find_14 post J (ct_i key) (ct_i x) (ct_i (A 0 0)) (ct_c (A 1)) (ct_c (A 2)) (ct_a (A 3)) (ct_c (A 4)) (ct_a (A 5)) (ct_a (A 6)) (ct_c (A 7)) (ct_c (A 8)) (ct_a (A 9)) (ct_a (A 10)) (ct_c (A 11)) (ct_c (A 12)) (ct_a (A 13)) (ct_c (A 14)) (ct_c (A 15)) (ct_c (A 16)) (m + 1) (ct_i (i : Int)) := by
  intro m
  have hkc := ct_nd_kc hl1 hl2
  have hlen : (ct_nd A x).1.length = ka.length + kb.length := by rw [hnd]; simp
  have e1 : ct_c (A 1) (ct_i x).toNatClampNeg = ct_i (A 1 x) := by rw [ct_rc h0 (by omega), ct_bI (by omega) (by omega)]
  induction m with
  | zero =>
    intro i hi
    have e : i = ka.length := by omega
    subst e
    unfold wX_find_14
    refine ⟨ct_in h0 (by omega) (by decide), ?_⟩
    rw [e1]
    cases kb with
    | nil =>
      refine br_t ?_ hp
      rw [ct_le (by omega) (by omega) (by omega) (by omega)]
      simp at hlen
      omega
    | cons e kb' =>
      have hv := ct_nd_kv hnd
      have hb := hgd e (by simp)
      have hk := hkb e kb' rfl
      have ee : (5 : Int32) * ct_i x + ct_i (ka.length : Int) = ct_i (5 * x + ka.length) := by rw [ct_l5, ct_mul, ct_add]
      simp at hlen
      refine br_f ?_ ?_
      · rw [ct_le (by omega) (by omega) (by omega) (by omega)]; omega
      · rw [ee]
        refine ⟨ct_in (by omega) (by omega) (by decide), br_t ?_ hp⟩
        rw [ct_rc (by omega) (by omega), hv.1, ct_bI (by omega) (by omega), ct_le (by omega) (by omega) (by omega) (by omega)]
        omega
  | succ m ih =>
    intro i hi
    obtain ⟨l1, e, l2, hl, hll⟩ := ct_spi ka i (by omega)
    have hv := ct_nd_kv (A := A) (x := x) (ka := l1) (e := e) (kb := l2 ++ kb) (by rw [hnd, hl]; simp)
    have hb := hgd e (by rw [hl]; simp)
    have hk := hka e (by rw [hl]; simp)
    rw [hll] at hv
    have ee : (5 : Int32) * ct_i x + ct_i (i : Int) = ct_i (5 * x + i) := by rw [ct_l5, ct_mul, ct_add]
    unfold wX_find_14
    refine ⟨ct_in h0 (by omega) (by decide), ?_⟩
    rw [e1]
    refine br_f ?_ ?_
    · rw [ct_le (by omega) (by omega) (by omega) (by omega)]; omega
    · rw [ee]
      refine ⟨ct_in (by omega) (by omega) (by decide), br_f ?_ (nm_r (e' := ct_i ((i + 1 : Nat) : Int)) ?_ (ih (i + 1) (by omega)))⟩
      · rw [ct_rc (by omega) (by omega), hv.1, ct_bI (by omega) (by omega), ct_le (by omega) (by omega) (by omega) (by omega)]
        omega
      · rw [ct_l1, ct_add]; congr 1
theorem ct_find_81 {post : Int32 → St1 → Prop} {J : Int32 → Int32 → (Nat → Int32) → (Nat → Int32) → (Nat → Int32) → (Nat → Int32) → (Nat → Int32) → (Nat → Int32) → (Nat → Int32) → (Nat → Int32) → (Nat → Int32) → (Nat → Int32) → (Nat → Int32) → (Nat → Int32) → (Nat → Int32) → (Nat → Int32) → (Nat → Int32) → (Nat → Int32) → Prop} {A : Nat → Int → Int} {key x : Int} {i : Nat} (h0 : 0 ≤ x) (h1 : x < 100) (hi : i < 6) (hb : -128 ≤ A 4 (6 * x) ∧ A 4 (6 * x) < 128) (hp0 : A 4 (6 * x) < 0 → J (ct_i (-1)) (ct_i (A 0 0)) (ct_c (A 1)) (ct_c (A 2)) (ct_a (A 3)) (ct_c (A 4)) (ct_a (A 5)) (ct_a (A 6)) (ct_c (A 7)) (ct_c (A 8)) (ct_a (A 9)) (ct_a (A 10)) (ct_c (A 11)) (ct_c (A 12)) (ct_a (A 13)) (ct_c (A 14)) (ct_c (A 15)) (ct_c (A 16))) (hp1 : ¬ A 4 (6 * x) < 0 → J (ct_b (A 4 (6 * x + i))) (ct_i (A 0 0)) (ct_c (A 1)) (ct_c (A 2)) (ct_a (A 3)) (ct_c (A 4)) (ct_a (A 5)) (ct_a (A 6)) (ct_c (A 7)) (ct_c (A 8)) (ct_a (A 9)) (ct_a (A 10)) (ct_c (A 11)) (ct_c (A 12)) (ct_a (A 13)) (ct_c (A 14)) (ct_c (A 15)) (ct_c (A 16))) : wX_find_81 post J (ct_i key) (ct_i x) (ct_i (i : Int)) (ct_i (A 0 0)) (ct_c (A 1)) (ct_c (A 2)) (ct_a (A 3)) (ct_c (A 4)) (ct_a (A 5)) (ct_a (A 6)) (ct_c (A 7)) (ct_c (A 8)) (ct_a (A 9)) (ct_a (A 10)) (ct_c (A 11)) (ct_c (A 12)) (ct_a (A 13)) (ct_c (A 14)) (ct_c (A 15)) (ct_c (A 16)) := by
  unfold wX_find_81
  refine ct_isLeaf h0 h1 hb ?_
  by_cases h : A 4 (6 * x) < 0
  · rw [if_pos h]
    exact br_f (by decide) (hp0 h)
  · rw [if_neg h]
    have ee : (6 : Int32) * ct_i x + ct_i (i : Int) = ct_i (6 * x + i) := by rw [ct_l6, ct_mul, ct_add]
    rw [ee]
    refine br_t rfl ⟨ct_in (by omega) (by omega) (by decide), nm_r (ct_rc (by omega) (by omega)) (hp1 h)⟩
/-- what is known of a page on the way -/
def ct_Hl (A : Nat → Int → Int) (d : Nat) (fs : List ct_Fr) (x r : Int) : Prop :=
  ct_Cx (ct_nd A) d fs x r ∧ ct_sh (ct_nd A) d x ∧ ct_lo fs ≤ (ct_nd A x).1.length ∧ (ct_nd A x).1.length ≤ 4 ∧ (∀ q, q ∈ ct_pg (ct_nd A) d x → 0 ≤ q ∧ q < 100 ∧ -128 ≤ A 4 (6 * q)) ∧ ct_so (ct_CL (ct_nd A) d fs ++ (ct_fl (ct_nd A) d x ++ ct_CR (ct_nd A) d fs)) ∧ (∀ e, e ∈ ct_fl (ct_nd A) d x → 0 ≤ e.1 ∧ e.1 < 100)
theorem ct_lo_1 (fs : List ct_Fr) : 1 ≤ ct_lo fs := by cases fs <;> simp [ct_lo]
/-- one step down, at the child of a cut -/
theorem ct_Hl_dn {A : Nat → Int → Int} {d : Nat} {fs : List ct_Fr} {x r : Int} {ka kb : List ct_KV} (h : ct_Hl A (d + 1) fs x r) (hnd : (ct_nd A x).1 = ka ++ kb) :
    ∃ ca c cb, ct_nd A x = (ka ++ kb, ca ++ c :: cb) ∧ ka.length = ca.length ∧ kb.length = cb.length ∧ A 4 (6 * x + (ka.length : Int)) = c ∧ 0 ≤ c ∧ c < 100 ∧ 0 ≤ A 4 (6 * x) ∧ A 4 (6 * x) < 100 ∧ ct_Hl A d ((x, (ka, ca), (kb, cb)) :: fs) c r ∧
      ct_CL (ct_nd A) d ((x, (ka, ca), (kb, cb)) :: fs) = ct_CL (ct_nd A) (d + 1) fs ++ ct_zl ka (ca.map (ct_fl (ct_nd A) d)) ∧ ct_CR (ct_nd A) d ((x, (ka, ca), (kb, cb)) :: fs) = ct_zr kb (cb.map (ct_fl (ct_nd A) d)) ++ ct_CR (ct_nd A) (d + 1) fs := by
  obtain ⟨hx, hs, hl1, hl2, hq, hso, hg⟩ := h
  have hs' := hs
  simp only [ct_sh] at hs
  obtain ⟨ca, c, cb, hc, hca, hcb⟩ := ct_split_at (cs := (ct_nd A x).2) (n := ka.length) (m := kb.length) (by rw [hs.1, hnd]; simp)
  have hnx : ct_nd A x = (ka ++ kb, ca ++ c :: cb) := by rw [← hnd, ← hc]
  have hcm : c ∈ (ct_nd A x).2 := by rw [hc]; simp
  have hsub : ∀ c', c' ∈ (ct_nd A x).2 → ∀ q, q ∈ ct_pg (ct_nd A) d c' → q ∈ ct_pg (ct_nd A) (d + 1) x := by
    intro c' hc' q hq'
    simp only [ct_pg, List.mem_cons, List.mem_flatten, List.mem_map]
    exact Or.inr ⟨_, ⟨c', hc', rfl⟩, hq'⟩
  have hrc := hq c (hsub c hcm c (ct_pg_self _ _ _))
  have hch := ct_nd_ch hc
  have h0 : 0 ≤ A 4 (6 * x) ∧ A 4 (6 * x) < 100 := by
    cases hcs : (ct_nd A x).2 with
    | nil => rw [hcs] at hcm; simp at hcm
    | cons c0 cs =>
      have e := ct_nd_ch (ca := []) (by simpa using hcs)
      have r := hq c0 (hsub c0 (by rw [hcs]; simp) c0 (ct_pg_self _ _ _))
      simp at e
      omega
  have hfl := ct_fl_cut (d := d) hnx (by omega)
  refine ⟨ca, c, cb, hnx, by omega, by omega, by rw [← hch, hca], hrc.1, hrc.2.1, h0.1, h0.2, ⟨?_, (hs.2 c hcm).1, ?_, (hs.2 c hcm).2.2, fun q hq' => hq q (hsub c hcm q hq'), ?_, fun e he => hg e (by rw [hfl]; simp [he])⟩, rfl, rfl⟩
  · simp only [ct_Cx]
    refine ⟨hnx, by omega, by omega, ?_, ?_, fun c' hc' => ?_, hx⟩
    · rw [hnd] at hl1; simpa using hl1
    · rw [hnd] at hl2; simpa using hl2
    · exact hs.2 c' (by rw [hc]; simp only [List.mem_append, List.mem_cons] at hc' ⊢; rcases hc' with h | h; exact Or.inl h; exact Or.inr (Or.inr h))
  · simp only [ct_lo]; exact (hs.2 c hcm).2.1
  · rw [hfl] at hso
    simp only [ct_CL, ct_CR]
    simp only [List.append_assoc] at hso ⊢
    exact hso
theorem ct_find_46 {post : Int32 → St1 → Prop} {J : Int32 → Int32 → (Nat → Int32) → (Nat → Int32) → (Nat → Int32) → (Nat → Int32) → (Nat → Int32) → (Nat → Int32) → (Nat → Int32) → (Nat → Int32) → (Nat → Int32) → (Nat → Int32) → (Nat → Int32) → (Nat → Int32) → (Nat → Int32) → (Nat → Int32) → (Nat → Int32) → (Nat → Int32) → Prop} {A : Nat → Int → Int} {key x n : Int} {f g : Int → Int} {ka kb : List ct_KV} (h0 : 0 ≤ x) (h1 : x < 100) (hkey : 0 ≤ key ∧ key < 100) (hn0 : 0 ≤ n) (hn8 : n < 8) (hnd : (ct_nd A x).1 = ka ++ kb) (hl1 : 1 ≤ (ct_nd A x).1.length) (hl2 : (ct_nd A x).1.length ≤ 4) (hgd : ∀ e, e ∈ ka ++ kb → 0 ≤ e.1 ∧ e.1 < 100) (hb : -128 ≤ A 4 (6 * x) ∧ A 4 (6 * x) < 128)
    (hp1 : ∀ e kb', kb = e :: kb' → e.1 = key → post (ct_i 1) (ct_lf (ct_wy A (n + 1) (ct_up f n x) (ct_up g n ka.length))))
    (hp : (∀ e kb', kb = e :: kb' → e.1 ≠ key) → wX_find_81 post J (ct_i key) (ct_i x) (ct_i (ka.length : Int)) (ct_i (n + 1)) (ct_c ((ct_wy A (n + 1) (ct_up f n x) (ct_up g n ka.length)) 1)) (ct_c ((ct_wy A (n + 1) (ct_up f n x) (ct_up g n ka.length)) 2)) (ct_a ((ct_wy A (n + 1) (ct_up f n x) (ct_up g n ka.length)) 3)) (ct_c ((ct_wy A (n + 1) (ct_up f n x) (ct_up g n ka.length)) 4)) (ct_a ((ct_wy A (n + 1) (ct_up f n x) (ct_up g n ka.length)) 5)) (ct_a ((ct_wy A (n + 1) (ct_up f n x) (ct_up g n ka.length)) 6)) (ct_c ((ct_wy A (n + 1) (ct_up f n x) (ct_up g n ka.length)) 7)) (ct_c ((ct_wy A (n + 1) (ct_up f n x) (ct_up g n ka.length)) 8)) (ct_a ((ct_wy A (n + 1) (ct_up f n x) (ct_up g n ka.length)) 9)) (ct_a ((ct_wy A (n + 1) (ct_up f n x) (ct_up g n ka.length)) 10)) (ct_c ((ct_wy A (n + 1) (ct_up f n x) (ct_up g n ka.length)) 11)) (ct_c ((ct_wy A (n + 1) (ct_up f n x) (ct_up g n ka.length)) 12)) (ct_a ((ct_wy A (n + 1) (ct_up f n x) (ct_up g n ka.length)) 13)) (ct_c ((ct_wy A (n + 1) (ct_up f n x) (ct_up g n ka.length)) 14)) (ct_c ((ct_wy A (n + 1) (ct_up f n x) (ct_up g n ka.length)) 15)) (ct_c ((ct_wy A (n + 1) (ct_up f n x) (ct_up g n ka.length)) 16))) :
    wX_find_46 post J (ct_i key) (ct_i x) (ct_i (ka.length : Int)) (ct_i n) (ct_c ((ct_wy A n f g) 1)) (ct_c ((ct_wy A n f g) 2)) (ct_a ((ct_wy A n f g) 3)) (ct_c ((ct_wy A n f g) 4)) (ct_a ((ct_wy A n f g) 5)) (ct_a ((ct_wy A n f g) 6)) (ct_c ((ct_wy A n f g) 7)) (ct_c ((ct_wy A n f g) 8)) (ct_a ((ct_wy A n f g) 9)) (ct_a ((ct_wy A n f g) 10)) (ct_c ((ct_wy A n f g) 11)) (ct_c ((ct_wy A n f g) 12)) (ct_a ((ct_wy A n f g) 13)) (ct_c ((ct_wy A n f g) 14)) (ct_c ((ct_wy A n f g) 15)) (ct_c ((ct_wy A n f g) 16)) := by
  have hkc := ct_nd_kc hl1 hl2
  have hlen : (ct_nd A x).1.length = ka.length + kb.length := by rw [hnd]; simp
  have e1 : ct_c (A 1) (ct_i x).toNatClampNeg = ct_i (A 1 x) := by rw [ct_rc h0 (by omega), ct_bI (by omega) (by omega)]
  unfold wX_find_46
  refine ct_pushWy (A := A) hn0 hn8 ?_
  refine ⟨ct_in h0 (by omega) (by decide), ?_⟩
  show (ct_c (A 1) (ct_i x).toNatClampNeg ≤ ct_i (ka.length : Int) → _) ∧ (¬ ct_c (A 1) (ct_i x).toNatClampNeg ≤ ct_i (ka.length : Int) → _)
  rw [e1]
  cases kb with
  | nil =>
    refine br_t ?_ (hp (by simp))
    rw [ct_le (by omega) (by omega) (by omega) (by omega)]
    simp at hlen
    omega
  | cons e kb' =>
    have hv := ct_nd_kv hnd
    have hbe := hgd e (by simp)
    have ee : (5 : Int32) * ct_i x + ct_i (ka.length : Int) = ct_i (5 * x + ka.length) := by rw [ct_l5, ct_mul, ct_add]
    have er : ct_c (A 2) (ct_i (5 * x + ka.length)).toNatClampNeg = ct_i e.1 := by rw [ct_rc (by omega) (by simp at hlen; omega), hv.1, ct_bI (by omega) (by omega)]
    simp at hlen
    refine br_f ?_ ?_
    · rw [ct_le (by omega) (by omega) (by omega) (by omega)]; omega
    · rw [ee]
      refine ⟨ct_in (by omega) (by omega) (by decide), ?_⟩
      show (ct_c (A 2) (ct_i (5 * x + ka.length)).toNatClampNeg = ct_i key → _) ∧ (¬ ct_c (A 2) (ct_i (5 * x + ka.length)).toNatClampNeg = ct_i key → _)
      rw [er, ct_eq (by omega) (by omega) (by omega) (by omega)]
      exact br_c (fun h => hp1 e kb' rfl h) (fun h => hp (fun e' kb'' h' => by rw [← (List.cons.inj h').1]; exact h))
theorem ct_find_7 {post : Int32 → St1 → Prop} {A : Nat → Int → Int} {D : Nat} {key r : Int} (hkey : 0 ≤ key ∧ key < 100) (hD : D ≤ 7)
    (hp1 : ∀ fs d x ka kb v f g, ct_At A D r fs d x ka ((key, v) :: kb) f g → (∀ e, e ∈ ct_CL (ct_nd A) d fs → e.1 < key) → (∀ e, e ∈ ct_CR (ct_nd A) d fs → key < e.1) → post (ct_i 1) (ct_lf (ct_wy A ((fs.length : Int) + 1) f g)))
    (hp0 : ∀ fs x ka kb f g, ct_At A D r fs 0 x ka kb f g → (∀ e, e ∈ ct_CL (ct_nd A) 0 fs ++ ka → e.1 < key) → (∀ e, e ∈ kb ++ ct_CR (ct_nd A) 0 fs → key < e.1) → post (ct_i 0) (ct_lf (ct_wy A ((fs.length : Int) + 1) f g))) :
    ∀ (d : Nat) (fs : List ct_Fr) (x : Int) (f g : Int → Int), d + fs.length = D → ct_Hl A d fs x r → (∀ e, e ∈ ct_CL (ct_nd A) d fs → e.1 < key) → (∀ e, e ∈ ct_CR (ct_nd A) d fs → key < e.1) → ct_Wy f g fs →
    wX_find_7 post (ct_i key) (d + 2) (ct_i x) (ct_i (fs.length : Int)) (ct_c ((ct_wy A fs.length f g) 1)) (ct_c ((ct_wy A fs.length f g) 2)) (ct_a ((ct_wy A fs.length f g) 3)) (ct_c ((ct_wy A fs.length f g) 4)) (ct_a ((ct_wy A fs.length f g) 5)) (ct_a ((ct_wy A fs.length f g) 6)) (ct_c ((ct_wy A fs.length f g) 7)) (ct_c ((ct_wy A fs.length f g) 8)) (ct_a ((ct_wy A fs.length f g) 9)) (ct_a ((ct_wy A fs.length f g) 10)) (ct_c ((ct_wy A fs.length f g) 11)) (ct_c ((ct_wy A fs.length f g) 12)) (ct_a ((ct_wy A fs.length f g) 13)) (ct_c ((ct_wy A fs.length f g) 14)) (ct_c ((ct_wy A fs.length f g) 15)) (ct_c ((ct_wy A fs.length f g) 16)) := by
  intro d
  induction d with
  | zero =>
    intro fs x f g hd hh hcl hcr hw
    obtain ⟨hx, hs, hl1, hl2, hq, hso, hg⟩ := hh
    have hlo := ct_lo_1 fs
    have hxr := hq x (ct_pg_self _ _ _)
    obtain ⟨ka, kb, hnd, hka, hkb⟩ := ct_cut (fun e : ct_KV => e.1 < key) (ct_nd A x).1
    have hleaf : A 4 (6 * x) < 0 := ct_nd_lf.mp hs
    have hAt : ∀ kb', kb = kb' → ct_At A D r fs 0 x ka kb' (ct_up f fs.length x) (ct_up g fs.length ka.length) := fun kb' e => ⟨hd, hx, hs, hl1, hl2, by rw [hnd, e], ct_Wy_up fs _ _ (by omega) (by omega) hw, ct_us, ct_us⟩
    have hfl : ct_fl (ct_nd A) 0 x = ka ++ kb := hnd
    rw [hfl] at hso hg
    unfold wX_find_7
    refine br_f ?_ ⟨ka.length + 1, ?_⟩
    · rw [ct_l0, ct_lt (by omega) (by omega) (by omega) (by omega)]; omega
    refine ct_find_14 (A := ct_wy A fs.length f g) (ka := ka) (kb := kb) hxr.1 hxr.2.1 hkey hnd (show 1 ≤ (ct_nd A x).1.length by omega) hl2 hg hka hkb ?_ ka.length 0 (by omega)
    refine ct_find_46 (A := A) (n := (fs.length : Int)) hxr.1 hxr.2.1 hkey (by omega) (by omega) hnd (by omega) hl2 hg ⟨hxr.2.2, by omega⟩ ?_ ?_
    · intro e kb' hke hk
      refine hp1 fs 0 x ka kb' e.2 _ _ (hAt _ (by rw [hke, ← hk])) hcl hcr
    · intro hne
      have hhd : ∀ e kb', kb = e :: kb' → key < e.1 := fun e kb' h => by have h1 := hne e kb' h; have h2 := hkb e kb' h; omega
      have hkb2 : ∀ e, e ∈ kb → key < e.1 := by
        intro e he
        cases kb with
        | nil => simp at he
        | cons e0 kb' =>
          have := hhd e0 kb' rfl
          have hs2 := (ct_so_app (ct_so_app hso).2.1).1
          have hs3 := (ct_so_app hs2).2.1
          unfold ct_so at hs3
          rw [List.pairwise_cons] at hs3
          rcases List.mem_cons.mp he with h | h
          · rw [h]; exact this
          · have := hs3.1 e h; omega
      refine ct_find_81 (A := ct_wy A (fs.length + 1) (ct_up f fs.length x) (ct_up g fs.length ka.length)) hxr.1 hxr.2.1 (by rw [hnd] at hl2; simp at hl2; omega) ⟨hxr.2.2, show A 4 (6 * x) < 128 by omega⟩ (fun _ => ?_) (fun h => absurd hleaf h)
      unfold wX_find_7
      refine br_t (by decide) ?_
      refine hp0 fs x ka kb _ _ (hAt _ rfl) (fun e he => ?_) (fun e he => ?_)
      · rcases List.mem_append.mp he with h | h
        · exact hcl e h
        · exact hka e h
      · rcases List.mem_append.mp he with h | h
        · exact hkb2 e h
        · exact hcr e h
  | succ d ih =>
    intro fs x f g hd hh hcl hcr hw
    have hh0 := hh
    obtain ⟨hx, hs, hl1, hl2, hq, hso, hg⟩ := hh
    have hlo := ct_lo_1 fs
    have hxr := hq x (ct_pg_self _ _ _)
    obtain ⟨ka, kb, hnd, hka, hkb⟩ := ct_cut (fun e : ct_KV => e.1 < key) (ct_nd A x).1
    obtain ⟨ca, c, cb, hnx, hl3, hl4, hc4, hc0, hc1, h40, h41, hdn, hCL, hCR⟩ := ct_Hl_dn hh0 hnd
    have hAt : ∀ kb', kb = kb' → ct_At A D r fs (d + 1) x ka kb' (ct_up f fs.length x) (ct_up g fs.length ka.length) := fun kb' e => ⟨hd, hx, hs, hl1, hl2, by rw [hnd, e], ct_Wy_up fs _ _ (by omega) (by omega) hw, ct_us, ct_us⟩
    have hgk : ∀ e, e ∈ ka ++ kb → 0 ≤ e.1 ∧ e.1 < 100 := fun e he => hg e (ct_fl_mem hs (by rw [hnd]; exact he))
    unfold wX_find_7
    refine br_f ?_ ⟨ka.length + 1, ?_⟩
    · rw [ct_l0, ct_lt (by omega) (by omega) (by omega) (by omega)]; omega
    refine ct_find_14 (A := ct_wy A fs.length f g) (ka := ka) (kb := kb) hxr.1 hxr.2.1 hkey hnd (show 1 ≤ (ct_nd A x).1.length by omega) hl2 hgk hka hkb ?_ ka.length 0 (by omega)
    refine ct_find_46 (A := A) (n := (fs.length : Int)) hxr.1 hxr.2.1 hkey (by omega) (by omega) hnd (by omega) hl2 hgk ⟨by omega, by omega⟩ ?_ ?_
    · intro e kb' hke hk
      refine hp1 fs (d + 1) x ka kb' e.2 _ _ (hAt _ (by rw [hke, ← hk])) hcl hcr
    · intro hne
      have hhd : ∀ e kb', kb = e :: kb' → key < e.1 := fun e kb' h => by have h1 := hne e kb' h; have h2 := hkb e kb' h; omega
      refine ct_find_81 (A := ct_wy A (fs.length + 1) (ct_up f fs.length x) (ct_up g fs.length ka.length)) hxr.1 hxr.2.1 (by rw [hnd] at hl2; simp at hl2; omega) ⟨show -128 ≤ A 4 (6 * x) by omega, show A 4 (6 * x) < 128 by omega⟩ (fun h => absurd h40 (by have h' : A 4 (6 * x) < 0 := h; omega)) (fun _ => ?_)
      have e4 : ct_b (ct_wy A (fs.length + 1) (ct_up f fs.length x) (ct_up g fs.length ka.length) 4 (6 * x + (ka.length : Int))) = ct_i c := by
        show ct_b (A 4 (6 * x + (ka.length : Int))) = ct_i c
        rw [hc4, ct_bI (by omega) (by omega)]
      rw [e4]
      have hso2 := hdn.2.2.2.2.2.1
      have hsl := (ct_so_app hso2)
      refine ih ((x, (ka, ca), (kb, cb)) :: fs) c _ _ (by simp; omega) hdn ?_ ?_ ⟨ct_us, ct_us, ct_Wy_up fs _ _ (by omega) (by omega) hw⟩
      · rw [hCL] at hsl ⊢
        intro e he
        rcases List.mem_append.mp he with h | h
        · exact hcl e h
        · exact ct_zl_lt ka _ (ct_so_app hsl.1).2.1 hka e h
      · rw [hCR] at hsl ⊢
        intro e he
        rcases List.mem_append.mp he with h | h
        · exact ct_zr_gt kb _ (ct_so_app (ct_so_app hsl.2.1).2.1).1 hhd e h
        · exact hcr e h
theorem ct_find {post : Int32 → St1 → Prop} {A : Nat → Int → Int} {D : Nat} {key r : Int} {W : List ct_KV} (hT : ct_T A D r W) (hso : ct_so W) (hg : ct_gd W) (hW : W.length ≤ 25) (hkey : 0 ≤ key ∧ key < 100)
    (hp1 : ∀ fs d x ka kb v f g, ct_At A D r fs d x ka ((key, v) :: kb) f g → (∀ e, e ∈ ct_CL (ct_nd A) d fs → e.1 < key) → (∀ e, e ∈ ct_CR (ct_nd A) d fs → key < e.1) → post (ct_i 1) (ct_lf (ct_wy A ((fs.length : Int) + 1) f g)))
    (hp0 : ∀ fs x ka kb f g, ct_At A D r fs 0 x ka kb f g → (∀ e, e ∈ ct_CL (ct_nd A) 0 fs ++ ka → e.1 < key) → (∀ e, e ∈ kb ++ ct_CR (ct_nd A) 0 fs → key < e.1) → post (ct_i 0) (ct_lf (ct_wy A ((fs.length : Int) + 1) f g))) :
    wpX_find post (ct_lf A) (ct_i r) (ct_i key) := by
  obtain ⟨h1, h2, h3, h4, h5, h6, h7⟩ := hT
  have hD := ct_dep h1 h2 (by rw [h7]; exact hW)
  unfold wpX_find ct_lf
  dsimp only
  refine ⟨D + 2, ?_⟩
  have := ct_find_7 (post := post) (A := A) (D := D) (key := key) (r := r) hkey (by omega) hp1 hp0 D [] r (A 14) (A 15) (by simp) ⟨rfl, h1, h2, h3, fun q hq => ⟨(h4 q hq).1, (h4 q hq).2, h6 q hq⟩, by simp [ct_CL, ct_CR, h7]; exact hso, by rw [h7]; exact fun e he => ⟨(hg e he).1, (hg e he).2.1⟩⟩ (by simp [ct_CL]) (by simp [ct_CR]) trivial
  exact this
/-- an empty tree -/
theorem ct_find_e {post : Int32 → St1 → Prop} {A : Nat → Int → Int} {key r : Int} (hr : -128 ≤ r ∧ r < 0) (hp : post (ct_i 0) (ct_lf (ct_wy A 0 (A 14) (A 15)))) : wpX_find post (ct_lf A) (ct_i r) (ct_i key) := by
  unfold wpX_find ct_lf
  dsimp only
  refine ⟨1, ?_⟩
  unfold wX_find_7
  refine br_t ?_ hp
  rw [ct_l0, ct_lt (by omega) (by omega) (by omega) (by omega)]; omega
end
section
/-! ===== 10: next, has, get, all ===== -/
def ct_hd : List ct_KV → Int
  | [] => -3
  | e :: _ => e.1
theorem ct_hd_app {a b : List ct_KV} (h : a = [] → False) : ct_hd (a ++ b) = ct_hd a := by
  cases a with
  | nil => exact absurd rfl h
  | cons e a => rfl
theorem ct_hd_rg {W : List ct_KV} (h : ∀ e, e ∈ W → 0 ≤ e.1 ∧ e.1 < 100) : -3 ≤ ct_hd W ∧ ct_hd W < 100 := by
  cases W with
  | nil => simp [ct_hd]
  | cons e W => have := h e (by simp); simp only [ct_hd]; omega
theorem ct_next_28 {post : Int32 → Prop} {J : Int32 → Int32 → Prop} {A : Nat → Int → Int} {key x : Int} {z : Int32} {ka kb : List ct_KV} (h0 : 0 ≤ x) (h1 : x < 100) (hkey : -1 ≤ key ∧ key < 100) (hnd : (ct_nd A x).1 = ka ++ kb) (hl1 : 1 ≤ (ct_nd A x).1.length) (hl2 : (ct_nd A x).1.length ≤ 4) (hgd : ∀ e, e ∈ ka ++ kb → 0 ≤ e.1 ∧ e.1 < 100) (hka : ∀ e, e ∈ ka → e.1 ≤ key) (hkb : ∀ e kb', kb = e :: kb' → ¬ e.1 ≤ key)
    (hp : wX_next_60 post J (ct_i key) (ct_i x) z (ct_i (ka.length : Int)) (ct_i (A 0 0)) (ct_c (A 1)) (ct_c (A 2)) (ct_a (A 3)) (ct_c (A 4)) (ct_a (A 5)) (ct_a (A 6)) (ct_c (A 7)) (ct_c (A 8)) (ct_a (A 9)) (ct_a (A 10)) (ct_c (A 11)) (ct_c (A 12)) (ct_a (A 13)) (ct_c (A 14)) (ct_c (A 15)) (ct_c (A 16))) : ∀ (m i : Nat), i + m = ka.length → wX_next_28 post J (ct_i key) (ct_i x) z (ct_i (A 0 0)) (ct_c (A 1)) (ct_c (A 2)) (ct_a (A 3)) (ct_c (A 4)) (ct_a (A 5)) (ct_a (A 6)) (ct_c (A 7)) (ct_c (A 8)) (ct_a (A 9)) (ct_a (A 10)) (ct_c (A 11)) (ct_c (A 12)) (ct_a (A 13)) (ct_c (A 14)) (ct_c (A 15)) (ct_c (A 16)) (m + 1) (ct_i (i : Int)) := by
  intro m
  have hkc := ct_nd_kc hl1 hl2
  have hlen : (ct_nd A x).1.length = ka.length + kb.length := by rw [hnd]; simp
  have e1 : ct_c (A 1) (ct_i x).toNatClampNeg = ct_i (A 1 x) := by rw [ct_rc h0 (by omega), ct_bI (by omega) (by omega)]
  induction m with
  | zero =>
    intro i hi
    have e : i = ka.length := by omega
    subst e
    unfold wX_next_28
    refine ⟨ct_in h0 (by omega) (by decide), ?_⟩
    rw [e1]
    cases kb with
    | nil =>
      refine br_t ?_ hp
      rw [ct_le (by omega) (by omega) (by omega) (by omega)]
      simp at hlen
      omega
    | cons e kb' =>
      have hv := ct_nd_kv hnd
      have hb := hgd e (by simp)
      have hk := hkb e kb' rfl
      have ee : (5 : Int32) * ct_i x + ct_i (ka.length : Int) = ct_i (5 * x + ka.length) := by rw [ct_l5, ct_mul, ct_add]
      simp at hlen
      refine br_f ?_ ?_
      · rw [ct_le (by omega) (by omega) (by omega) (by omega)]; omega
      · rw [ee]
        refine ⟨ct_in (by omega) (by omega) (by decide), br_t ?_ hp⟩
        rw [ct_rc (by omega) (by omega), hv.1, ct_bI (by omega) (by omega), ct_lt (by omega) (by omega) (by omega) (by omega)]
        omega
  | succ m ih =>
    intro i hi
    obtain ⟨l1, e, l2, hl, hll⟩ := ct_spi ka i (by omega)
    have hv := ct_nd_kv (A := A) (x := x) (ka := l1) (e := e) (kb := l2 ++ kb) (by rw [hnd, hl]; simp)
    have hb := hgd e (by rw [hl]; simp)
    have hk := hka e (by rw [hl]; simp)
    rw [hll] at hv
    have ee : (5 : Int32) * ct_i x + ct_i (i : Int) = ct_i (5 * x + i) := by rw [ct_l5, ct_mul, ct_add]
    unfold wX_next_28
    refine ⟨ct_in h0 (by omega) (by decide), ?_⟩
    rw [e1]
    refine br_f ?_ ?_
    · rw [ct_le (by omega) (by omega) (by omega) (by omega)]; omega
    · rw [ee]
      refine ⟨ct_in (by omega) (by omega) (by decide), br_f ?_ (nm_r (e' := ct_i ((i + 1 : Nat) : Int)) ?_ (ih (i + 1) (by omega)))⟩
      · rw [ct_rc (by omega) (by omega), hv.1, ct_bI (by omega) (by omega), ct_lt (by omega) (by omega) (by omega) (by omega)]
        omega
      · rw [ct_l1, ct_add]; congr 1
theorem ct_next_84 {post : Int32 → Prop} {J : Int32 → Int32 → Prop} {A : Nat → Int → Int} {key x : Int} {z : Int32} {i : Nat} (h0 : 0 ≤ x) (h1 : x < 100) (hi : i < 6) (hb : -128 ≤ A 4 (6 * x) ∧ A 4 (6 * x) < 128) (hp0 : A 4 (6 * x) < 0 → J (ct_i (-1)) z) (hp1 : ¬ A 4 (6 * x) < 0 → J (ct_b (A 4 (6 * x + i))) z) : wX_next_84 post J (ct_i key) (ct_i x) z (ct_i (i : Int)) (ct_i (A 0 0)) (ct_c (A 1)) (ct_c (A 2)) (ct_a (A 3)) (ct_c (A 4)) (ct_a (A 5)) (ct_a (A 6)) (ct_c (A 7)) (ct_c (A 8)) (ct_a (A 9)) (ct_a (A 10)) (ct_c (A 11)) (ct_c (A 12)) (ct_a (A 13)) (ct_c (A 14)) (ct_c (A 15)) (ct_c (A 16)) := by
  have e6 : (6 : Int32) * ct_i x = ct_i (6 * x) := by rw [ct_l6, ct_mul]
  unfold wX_next_84
  rw [e6, ct_add]
  refine ⟨ct_in (by omega) (by omega) (by decide), ?_⟩
  rw [ct_rc (by omega) (by omega), ct_bI hb.1 hb.2, ct_l0, ct_le (by omega) (by omega) (by omega) (by omega)]
  by_cases h : A 4 (6 * x) < 0
  · exact br_f (by omega) (hp0 h)
  · exact br_t (by omega) ⟨ct_in (by omega) (by omega) (by decide), nm_r (ct_rc (by omega) (by omega)) (hp1 h)⟩
theorem ct_next_60 {post : Int32 → Prop} {J : Int32 → Int32 → Prop} {A : Nat → Int → Int} {key x : Int} {ka kb R : List ct_KV} (h0 : 0 ≤ x) (h1 : x < 100) (hnd : (ct_nd A x).1 = ka ++ kb) (hl1 : 1 ≤ (ct_nd A x).1.length) (hl2 : (ct_nd A x).1.length ≤ 4) (hgd : ∀ e, e ∈ ka ++ kb → 0 ≤ e.1 ∧ e.1 < 100)
    (hp : wX_next_84 post J (ct_i key) (ct_i x) (ct_i (ct_hd (kb ++ R))) (ct_i (ka.length : Int)) (ct_i (A 0 0)) (ct_c (A 1)) (ct_c (A 2)) (ct_a (A 3)) (ct_c (A 4)) (ct_a (A 5)) (ct_a (A 6)) (ct_c (A 7)) (ct_c (A 8)) (ct_a (A 9)) (ct_a (A 10)) (ct_c (A 11)) (ct_c (A 12)) (ct_a (A 13)) (ct_c (A 14)) (ct_c (A 15)) (ct_c (A 16))) :
    wX_next_60 post J (ct_i key) (ct_i x) (ct_i (ct_hd R)) (ct_i (ka.length : Int)) (ct_i (A 0 0)) (ct_c (A 1)) (ct_c (A 2)) (ct_a (A 3)) (ct_c (A 4)) (ct_a (A 5)) (ct_a (A 6)) (ct_c (A 7)) (ct_c (A 8)) (ct_a (A 9)) (ct_a (A 10)) (ct_c (A 11)) (ct_c (A 12)) (ct_a (A 13)) (ct_c (A 14)) (ct_c (A 15)) (ct_c (A 16)) := by
  have hkc := ct_nd_kc hl1 hl2
  have hlen : (ct_nd A x).1.length = ka.length + kb.length := by rw [hnd]; simp
  have e1 : ct_c (A 1) (ct_i x).toNatClampNeg = ct_i (A 1 x) := by rw [ct_rc h0 (by omega), ct_bI (by omega) (by omega)]
  unfold wX_next_60
  refine ⟨ct_in h0 (by omega) (by decide), ?_⟩
  rw [e1]
  cases kb with
  | nil =>
    refine br_t ?_ hp
    rw [ct_le (by omega) (by omega) (by omega) (by omega)]
    simp at hlen
    omega
  | cons e kb' =>
    have hv := ct_nd_kv hnd
    have hbe := hgd e (by simp)
    have ee : (5 : Int32) * ct_i x + ct_i (ka.length : Int) = ct_i (5 * x + ka.length) := by rw [ct_l5, ct_mul, ct_add]
    simp at hlen
    refine br_f ?_ ?_
    · rw [ct_le (by omega) (by omega) (by omega) (by omega)]; omega
    · rw [ee]
      refine ⟨ct_in (by omega) (by omega) (by decide), nm_r (e' := ct_i e.1) ?_ hp⟩
      rw [ct_rc (by omega) (by omega), hv.1, ct_bI (by omega) (by omega)]
theorem ct_next_21 {post : Int32 → Prop} {A : Nat → Int → Int} {D : Nat} {key r : Int} {W : List ct_KV} (hkey : -1 ≤ key ∧ key < 100) (hW : ct_fl (ct_nd A) D r = W) (hgW : ∀ e, e ∈ W → 0 ≤ e.1 ∧ e.1 < 100)
    (hp : ∀ P S, W = P ++ S → (∀ e, e ∈ P → e.1 ≤ key) → (∀ e, e ∈ S → key < e.1) → post (ct_i (ct_hd S))) :
    ∀ (d : Nat) (fs : List ct_Fr) (x : Int), d + fs.length = D → ct_Hl A d fs x r → (∀ e, e ∈ ct_CL (ct_nd A) d fs → e.1 ≤ key) → (∀ e, e ∈ ct_CR (ct_nd A) d fs → key < e.1) →
    wX_next_21 post (ct_i key) (ct_i (A 0 0)) (ct_c (A 1)) (ct_c (A 2)) (ct_a (A 3)) (ct_c (A 4)) (ct_a (A 5)) (ct_a (A 6)) (ct_c (A 7)) (ct_c (A 8)) (ct_a (A 9)) (ct_a (A 10)) (ct_c (A 11)) (ct_c (A 12)) (ct_a (A 13)) (ct_c (A 14)) (ct_c (A 15)) (ct_c (A 16)) (d + 2) (ct_i x) (ct_i (ct_hd (ct_CR (ct_nd A) d fs))) := by
  intro d
  induction d with
  | zero =>
    intro fs x hd hh hcl hcr
    obtain ⟨hx, hs, hl1, hl2, hq, hso, hg⟩ := hh
    have hlo := ct_lo_1 fs
    have hxr := hq x (ct_pg_self _ _ _)
    obtain ⟨ka, kb, hnd, hka, hkb⟩ := ct_cut (fun e : ct_KV => e.1 ≤ key) (ct_nd A x).1
    have hleaf : A 4 (6 * x) < 0 := ct_nd_lf.mp hs
    have hfl : ct_fl (ct_nd A) 0 x = ka ++ kb := hnd
    have hWe := ct_Cx_fl fs 0 x r hx
    rw [hd, hW, hfl] at hWe
    rw [hfl] at hso hg
    have hkb2 : ∀ e, e ∈ kb → key < e.1 := by
      intro e he
      cases kb with
      | nil => simp at he
      | cons e0 kb' =>
        have := hkb e0 kb' rfl
        have hs2 := (ct_so_app (ct_so_app hso).2.1).1
        have hs3 := (ct_so_app hs2).2.1
        unfold ct_so at hs3
        rw [List.pairwise_cons] at hs3
        rcases List.mem_cons.mp he with h | h
        · rw [h]; omega
        · have := hs3.1 e h; omega
    unfold wX_next_21
    refine br_f ?_ ⟨ka.length + 1, ?_⟩
    · rw [ct_l0, ct_lt (by omega) (by omega) (by omega) (by omega)]; omega
    refine ct_next_28 (A := A) (ka := ka) (kb := kb) hxr.1 hxr.2.1 hkey hnd (by omega) hl2 hg hka hkb ?_ ka.length 0 (by omega)
    refine ct_next_60 (A := A) hxr.1 hxr.2.1 hnd (by omega) hl2 hg ?_
    refine ct_next_84 (A := A) hxr.1 hxr.2.1 (by rw [hnd] at hl2; simp at hl2; omega) ⟨hxr.2.2, by omega⟩ (fun _ => ?_) (fun h => absurd hleaf h)
    unfold wX_next_21
    refine br_t (by decide) (hp (ct_CL (ct_nd A) 0 fs ++ ka) (kb ++ ct_CR (ct_nd A) 0 fs) (by rw [hWe]; simp) (fun e he => ?_) (fun e he => ?_))
    · rcases List.mem_append.mp he with h | h
      · exact hcl e h
      · exact hka e h
    · rcases List.mem_append.mp he with h | h
      · exact hkb2 e h
      · exact hcr e h
  | succ d ih =>
    intro fs x hd hh hcl hcr
    have hh0 := hh
    obtain ⟨hx, hs, hl1, hl2, hq, hso, hg⟩ := hh
    have hlo := ct_lo_1 fs
    have hxr := hq x (ct_pg_self _ _ _)
    obtain ⟨ka, kb, hnd, hka, hkb⟩ := ct_cut (fun e : ct_KV => e.1 ≤ key) (ct_nd A x).1
    obtain ⟨ca, c, cb, hnx, hl3, hl4, hc4, hc0, hc1, h40, h41, hdn, hCL, hCR⟩ := ct_Hl_dn hh0 hnd
    have hgk : ∀ e, e ∈ ka ++ kb → 0 ≤ e.1 ∧ e.1 < 100 := fun e he => hg e (ct_fl_mem hs (by rw [hnd]; exact he))
    have hhd : ∀ e kb', kb = e :: kb' → key < e.1 := fun e kb' h => by have h2 := hkb e kb' h; omega
    have hH : ct_hd (kb ++ ct_CR (ct_nd A) (d + 1) fs) = ct_hd (ct_CR (ct_nd A) d ((x, (ka, ca), (kb, cb)) :: fs)) := by
      rw [hCR]
      cases kb with
      | nil => rfl
      | cons e kb' => cases cb with
        | nil => simp at hl4
        | cons c' cb' => rfl
    unfold wX_next_21
    refine br_f ?_ ⟨ka.length + 1, ?_⟩
    · rw [ct_l0, ct_lt (by omega) (by omega) (by omega) (by omega)]; omega
    refine ct_next_28 (A := A) (ka := ka) (kb := kb) hxr.1 hxr.2.1 hkey hnd (by omega) hl2 hgk hka hkb ?_ ka.length 0 (by omega)
    refine ct_next_60 (A := A) hxr.1 hxr.2.1 hnd (by omega) hl2 hgk ?_
    refine ct_next_84 (A := A) hxr.1 hxr.2.1 (by rw [hnd] at hl2; simp at hl2; omega) ⟨by omega, by omega⟩ (fun h => absurd h40 (by omega)) (fun _ => ?_)
    rw [hc4, ct_bI (by omega) (by omega), hH]
    have hsl := (ct_so_app hdn.2.2.2.2.2.1)
    refine ih ((x, (ka, ca), (kb, cb)) :: fs) c (by simp; omega) hdn ?_ ?_
    · rw [hCL] at hsl ⊢
      intro e he
      rcases List.mem_append.mp he with h | h
      · exact hcl e h
      · exact ct_zl_le ka _ (ct_so_app hsl.1).2.1 hka e h
    · rw [hCR] at hsl ⊢
      intro e he
      rcases List.mem_append.mp he with h | h
      · exact ct_zr_gt kb _ (ct_so_app (ct_so_app hsl.2.1).2.1).1 hhd e h
      · exact hcr e h
/-- a content: sorted, in reach, at most 24 pairs -/
def ct_W (W : List ct_KV) : Prop := ct_so W ∧ ct_gd W ∧ W.length ≤ 24
/-- a root with its content -/
def ct_R (A : Nat → Int → Int) (D : Nat) (r : Int) (W : List ct_KV) : Prop := (r = -1 ∧ W = []) ∨ (0 ≤ r ∧ ct_T A D r W)
theorem ct_T_Hl {A : Nat → Int → Int} {D : Nat} {r : Int} {W : List ct_KV} (hT : ct_T A D r W) (hW : ct_W W) : ct_Hl A D [] r r := by
  obtain ⟨h1, h2, h3, h4, h5, h6, h7⟩ := hT
  exact ⟨rfl, h1, h2, h3, fun q hq => ⟨(h4 q hq).1, (h4 q hq).2, h6 q hq⟩, by simp [ct_CL, ct_CR, h7]; exact hW.1, by rw [h7]; exact fun e he => ⟨(hW.2.1 e he).1, (hW.2.1 e he).2.1⟩⟩
theorem ct_R_rg {A : Nat → Int → Int} {D : Nat} {r : Int} {W : List ct_KV} (h : ct_R A D r W) : -1 ≤ r ∧ r < 100 := by
  rcases h with h | h
  · omega
  · have := h.2.2.2.2.1 r (ct_pg_self _ _ _); omega
theorem ct_next {post : Int32 → Prop} {A : Nat → Int → Int} {D : Nat} {k key : Int} {W : List ct_KV} (h0 : 0 ≤ k) (h3 : k ≤ 3) (hkey : -1 ≤ key ∧ key < 100) (hR : ct_R A D (A 11 k) W) (hW : ct_W W)
    (hp : ∀ P S, W = P ++ S → (∀ e, e ∈ P → e.1 ≤ key) → (∀ e, e ∈ S → key < e.1) → post (ct_i (ct_hd S))) : wpX_next post (ct_lf A) (ct_i k) (ct_i key) := by
  have hr := ct_R_rg hR
  unfold wpX_next
  refine ct_sees h0 h3 (by omega) ?_
  rw [if_neg (by omega)]
  refine br_f (by decide) ⟨ct_in h0 (by omega) (by decide), ?_⟩
  refine nm_r (e' := ct_i (A 11 k)) (by rw [ct_rc h0 (by omega), ct_bI (by omega) (by omega)]) ?_
  rcases hR with ⟨h, hw⟩ | ⟨h, hT⟩
  · refine ⟨1, ?_⟩
    unfold wX_next_21
    refine br_t ?_ ?_
    · rw [h]; decide
    · subst hw
      exact hp [] [] rfl (by simp) (by simp)
  · refine ⟨D + 2, ?_⟩
    have := ct_next_21 (post := post) (A := A) (D := D) (key := key) (r := A 11 k) (W := W) hkey hT.2.2.2.2.2.2 (fun e he => ⟨(hW.2.1 e he).1, (hW.2.1 e he).2.1⟩) hp D [] (A 11 k) (by simp) (ct_T_Hl hT hW) (by simp [ct_CL]) (by simp [ct_CR])
    exact this
/-- the value at the end of the way -/
def ct_vl (A : Nat → Int → Int) (n : Int) (f g : Int → Int) (v : Int) : Prop := 1 ≤ n ∧ n ≤ 8 ∧ 0 ≤ f (n - 1) ∧ f (n - 1) < 100 ∧ 0 ≤ g (n - 1) ∧ g (n - 1) < 5 ∧ A 3 (5 * f (n - 1) + g (n - 1)) = v
theorem ct_At_vl {A : Nat → Int → Int} {D : Nat} {r key v : Int} {W : List ct_KV} {fs : List ct_Fr} {d : Nat} {x : Int} {ka kb : List ct_KV} {f g : Int → Int} (hT : ct_T A D r W) (hW : ct_W W) (h : ct_At A D r fs d x ka ((key, v) :: kb) f g) : (key, v) ∈ W ∧ ct_vl A ((fs.length : Int) + 1) f g v := by
  obtain ⟨h1, h2, h3, h4, h5, h6, h7, h8, h9⟩ := h
  have hw := hW.2.2
  have hD := ct_dep hT.1 hT.2.1 (by rw [hT.2.2.2.2.2.2]; omega)
  have hpg := ct_Cx_pg fs d x r h2
  rw [h1] at hpg
  have hx : x ∈ ct_pg (ct_nd A) D r := hpg.mem_iff.mpr (List.mem_append.mpr (Or.inl (ct_pg_self _ _ _)))
  have hxr := hT.2.2.2.1 x hx
  have hfl := ct_Cx_fl fs d x r h2
  rw [h1, hT.2.2.2.2.2.2] at hfl
  have hv := ct_nd_kv h6
  rw [h6] at h5
  simp at h5
  refine ⟨?_, ?_⟩
  · rw [hfl]
    have := ct_fl_mem h3 (e := (key, v)) (by rw [h6]; simp)
    simp [this]
  · unfold ct_vl
    rw [show (fs.length : Int) + 1 - 1 = fs.length by omega, h8, h9]
    exact ⟨by omega, by omega, hxr.1, hxr.2, by omega, by omega, hv.2⟩
theorem ct_has {post : Int32 → St1 → Prop} {A : Nat → Int → Int} {D : Nat} {k key : Int} {W : List ct_KV} (h0 : 0 ≤ k) (h3 : k ≤ 3) (hkey : 0 ≤ key ∧ key < 100) (hR : ct_R A D (A 11 k) W) (hW : ct_W W)
    (hp1 : ∀ v n f g, (key, v) ∈ W → ct_vl A n f g v → post 1 (ct_lf (ct_wy A n f g))) (hp0 : (∀ e, e ∈ W → e.1 ≠ key) → ∀ n f g, post 0 (ct_lf (ct_wy A n f g))) : wpX_has post (ct_lf A) (ct_i k) (ct_i key) := by
  have hr := ct_R_rg hR
  have e11 : ct_c (A 11) (ct_i k).toNatClampNeg = ct_i (A 11 k) := by rw [ct_rc h0 (by omega), ct_bI (by omega) (by omega)]
  unfold wpX_has
  refine ct_sees h0 h3 (by omega) ?_
  rw [if_neg (by omega)]
  refine br_f (by decide) ?_
  refine ct_isKey hkey.1 (by omega) ?_
  refine br_f (by decide) ⟨ct_in h0 (by omega) (by decide), ?_⟩
  rw [e11]
  rcases hR with ⟨h, hw⟩ | ⟨h, hT⟩
  · rw [h]
    refine ct_find_e (A := A) (by omega) ?_
    subst hw
    exact br_t rfl (hp0 (by simp) _ _ _)
  · refine ct_find (A := A) hT hW.1 hW.2.1 (by have := hW.2.2; omega) hkey (fun fs d x ka kb v f g hAt _ _ => ?_) (fun fs x ka kb f g hAt h1 h2 => ?_)
    · have := ct_At_vl hT hW hAt
      exact br_f (by decide) (hp1 v _ f g this.1 this.2)
    · refine br_t rfl (hp0 (fun e he => ?_) _ f g)
      obtain ⟨g1, g2, g3, g4, g5, g6, g7, g8, g9⟩ := hAt
      have hfl := ct_Cx_fl fs 0 x _ g2
      rw [g1, hT.2.2.2.2.2.2] at hfl
      rw [hfl] at he
      simp only [ct_fl] at he
      rw [g6] at he
      simp only [List.mem_append] at he h1 h2
      rcases he with h | ((h | h) | h)
      · have := h1 e (Or.inl h); omega
      · have := h1 e (Or.inr h); omega
      · have := h2 e (Or.inl h); omega
      · have := h2 e (Or.inr h); omega
theorem ct_so_uq {W : List ct_KV} (h : ct_so W) {k v w : Int} (h1 : (k, v) ∈ W) (h2 : (k, w) ∈ W) : v = w := by
  induction W with
  | nil => simp at h1
  | cons e W ih =>
    unfold ct_so at h
    rw [List.pairwise_cons] at h
    rcases List.mem_cons.mp h1 with a | a
    · rcases List.mem_cons.mp h2 with b | b
      · rw [← a] at b
        exact ((Prod.mk.injEq _ _ _ _).mp b).2.symm
      · have := h.1 _ b
        rw [← a] at this
        simp at this
    · rcases List.mem_cons.mp h2 with b | b
      · have := h.1 _ a
        rw [← b] at this
        simp at this
      · exact ih h.2 a b
theorem ct_get {post : Int32 → St1 → Prop} {A : Nat → Int → Int} {D : Nat} {k key v : Int} {W : List ct_KV} (h0 : 0 ≤ k) (h3 : k ≤ 3) (hkey : 0 ≤ key ∧ key < 100) (hR : ct_R A D (A 11 k) W) (hW : ct_W W) (hm : (key, v) ∈ W)
    (hp : ∀ n f g, post (ct_i v) (ct_lf (ct_wy A n f g))) : wpX_get post (ct_lf A) (ct_i k) (ct_i key) := by
  unfold wpX_get
  refine ct_has h0 h3 hkey hR hW (fun v' n f g hv hl => ?_) (fun h => absurd rfl (h _ hm))
  have e : v' = v := ct_so_uq hW.1 hv hm
  subst e
  obtain ⟨g1, g2, g3, g4, g5, g6, g7⟩ := hl
  refine br_f (by decide) ?_
  have en : ct_i n - 1 = ct_i (n - 1) := by rw [ct_l1, ct_sub]
  show vp_in (ct_i n - 1) 8 ∧ vp_in (ct_i n - 1) 8 ∧ vp_in (5 * ct_c f (ct_i n - 1).toNatClampNeg + ct_c g (ct_i n - 1).toNatClampNeg) 500 ∧ post (ct_a (A 3) (5 * ct_c f (ct_i n - 1).toNatClampNeg + ct_c g (ct_i n - 1).toNatClampNeg).toNatClampNeg) _
  rw [en, ct_rc (by omega) (by omega), ct_rc (by omega) (by omega), ct_bI (by omega) (by omega), ct_bI (by omega) (by omega), ct_l5, ct_mul, ct_add, ct_rd (by omega) (by omega), g7]
  exact ⟨ct_in (by omega) (by omega) (by decide), ct_in (by omega) (by omega) (by decide), ct_in (by omega) (by omega) (by decide), hp n f g⟩
end
section
/-! ===== 11: all: the hash of a content; it is odd ===== -/
def ct_hs1 (h : Int64) (e : ct_KV) : Int64 := h * 1000003 + (ct_i e.1 * 31).toInt64 + (ct_i e.2).toInt64
def ct_hs (W : List ct_KV) : Int64 := W.foldl ct_hs1 7
theorem ct_hs_snoc (P : List ct_KV) (e : ct_KV) : ct_hs (P ++ [e]) = ct_hs1 (ct_hs P) e := by
  unfold ct_hs
  rw [List.foldl_append]
  rfl
theorem ct_all_13 {post : Int64 → St1 → Prop} {A : Nat → Int → Int} {D : Nat} {k : Int} {W : List ct_KV} (h0 : 0 ≤ k) (h3 : k ≤ 3) (hR : ct_R A D (A 11 k) W) (hW : ct_W W) (h12 : A 12 k = W.length) (hp : ∀ n f g, post (ct_hs W) (ct_lf (ct_wy A n f g))) :
    ∀ (m : Nat) (P S : List ct_KV) (key n : Int) (f g : Int → Int), m ≤ 25 → W = P ++ S → S.length ≤ m → -1 ≤ key → key < 100 → (∀ e, e ∈ P → e.1 ≤ key) → (∀ e, e ∈ S → key < e.1) →
    wL_all_13 post (ct_i k) (m + 1) (ct_hs P) (ct_i (P.length : Int)) (ct_i key) (ct_i (25 - (m : Int))) (ct_i n) (ct_c ((ct_wy A n f g) 1)) (ct_c ((ct_wy A n f g) 2)) (ct_a ((ct_wy A n f g) 3)) (ct_c ((ct_wy A n f g) 4)) (ct_a ((ct_wy A n f g) 5)) (ct_a ((ct_wy A n f g) 6)) (ct_c ((ct_wy A n f g) 7)) (ct_c ((ct_wy A n f g) 8)) (ct_a ((ct_wy A n f g) 9)) (ct_a ((ct_wy A n f g) 10)) (ct_c ((ct_wy A n f g) 11)) (ct_c ((ct_wy A n f g) 12)) (ct_a ((ct_wy A n f g) 13)) (ct_c ((ct_wy A n f g) 14)) (ct_c ((ct_wy A n f g) 15)) (ct_c ((ct_wy A n f g) 16)) := by
  intro m
  have hWl := hW.2.2
  have hrg := ct_R_rg hR
  induction m with
  | zero =>
    intro P S key n f g hm hPS hS hk0 hk1 hP hSk
    have eS : S = [] := List.length_eq_zero_iff.mp (by omega)
    subst eS
    have hPW : P = W := by rw [hPS]; simp
    unfold wL_all_13
    refine br_t (by decide) ?_
    refine ct_next (A := ct_wy A n f g) (D := D) h0 h3 ⟨hk0, hk1⟩ hR hW (fun P' S' hPS' hP' hS' => ?_)
    have eS' : S' = [] := by
      cases S' with
      | nil => rfl
      | cons e S' =>
        exfalso
        have hm : e ∈ P := by rw [hPW, hPS']; simp
        have a1 := hP e hm
        have a2 := hS' e (by simp)
        omega
    subst eS'
    refine br_t rfl ?_
    refine ct_size (A := ct_wy A n f g) h0 h3 (show -128 ≤ A 11 k ∧ A 11 k < 128 by omega) (show -128 ≤ A 12 k ∧ A 12 k < 128 by omega) ?_
    rw [if_neg (show ¬ ct_wy A n f g 11 k = -2 from show ¬ A 11 k = -2 by omega)]
    refine br_t ?_ ?_
    · show ct_i (A 12 k) = _
      rw [h12, hPW]
    · rw [hPW]
      exact hp n f g
  | succ m ih =>
    intro P S key n f g hm hPS hS hk0 hk1 hP hSk
    have e1 : ct_i (25 - ((m + 1 : Nat) : Int)) + 1 = ct_i (25 - (m : Int)) := by rw [ct_l1, ct_add]; congr 1; omega
    unfold wL_all_13
    refine br_f ?_ ?_
    · rw [ct_l25, ct_le (by omega) (by omega) (by omega) (by omega)]; omega
    refine ct_next (A := ct_wy A n f g) (D := D) h0 h3 ⟨hk0, hk1⟩ hR hW (fun P' S' hPS' hP' hS' => ?_)
    have hcut : P' = P ∧ S' = S := by
      have hsame : P ++ S = P' ++ S' := by rw [← hPS, ← hPS']
      rcases List.append_eq_append_iff.mp hsame with ⟨t, ht1, ht2⟩ | ⟨t, ht1, ht2⟩
      · cases t with
        | nil => simp at ht1 ht2; exact ⟨ht1, ht2.symm⟩
        | cons e t =>
          exfalso
          have a1 := hP' e (by rw [ht1]; simp)
          have a2 := hSk e (by rw [ht2]; simp)
          omega
      · cases t with
        | nil => simp at ht1 ht2; exact ⟨ht1.symm, ht2⟩
        | cons e t =>
          exfalso
          have a1 := hP e (by rw [ht1]; simp)
          have a2 := hS' e (by rw [ht2]; simp)
          omega
    obtain ⟨eP, eS⟩ := hcut
    subst eP eS
    cases S' with
    | nil =>
      refine br_t (by decide) (nm_r e1 ?_)
      exact ih P' [] key n f g (by omega) hPS (by simp) hk0 hk1 hP hSk
    | cons e S =>
      have hmem : e ∈ W := by rw [hPS]; simp
      have hge := hW.2.1 e hmem
      have hke := hSk e (by simp)
      simp only [ct_hd]
      refine br_f ?_ (br_f ?_ (br_f ?_ ?_))
      · rw [ct_l0, ct_lt (by omega) (by omega) (by omega) (by omega)]; omega
      · rw [ct_le (by omega) (by omega) (by omega) (by omega)]; omega
      · rw [ct_l99, ct_lt (by omega) (by omega) (by omega) (by omega)]; omega
      refine ct_has (A := ct_wy A n f g) (D := D) h0 h3 ⟨hge.1, hge.2.1⟩ hR hW (fun v n' f' g' _ _ => ?_) (fun h => absurd rfl (h e hmem))
      refine br_f (by decide) ?_
      refine ct_get (A := ct_wy (ct_wy A n f g) n' f' g') (D := D) (v := e.2) h0 h3 ⟨hge.1, hge.2.1⟩ hR hW hmem (fun n'' f'' g'' => ?_)
      refine nm_r (e' := ct_hs (P' ++ [e])) (by rw [ct_hs_snoc]; rfl) (nm_r (e' := ct_i ((P' ++ [e]).length : Int)) (by rw [ct_l1, ct_add]; congr 1; simp) (nm_r e1 ?_))
      simp only [List.length_cons] at hS
      refine ih (P' ++ [e]) S e.1 n'' f'' g'' (by omega) (by rw [hPS]; simp) (by omega) (by omega) (by omega) (fun a ha => ?_) (fun a ha => ?_)
      · rcases List.mem_append.mp ha with h | h
        · have := hP a h; omega
        · rw [List.mem_singleton.mp h]; omega
      · have hso := hW.1
        rw [hPS] at hso
        have := (ct_so_app hso).2.1
        unfold ct_so at this
        rw [List.pairwise_cons] at this
        exact this.1 a ha
theorem ct_all {post : Int64 → St1 → Prop} {A : Nat → Int → Int} {D : Nat} {k : Int} {W : List ct_KV} (h0 : 0 ≤ k) (h3 : k ≤ 3) (hR : ct_R A D (A 11 k) W) (hW : ct_W W) (h12 : A 12 k = W.length) (hp : ∀ n f g, post (ct_hs W) (ct_lf (ct_wy A n f g))) : wpL_all post (ct_lf A) (ct_i k) := by
  unfold wpL_all ct_lf
  dsimp only
  refine ⟨26, ?_⟩
  have := ct_all_13 h0 h3 hR hW h12 hp 25 [] W (-1) (A 0 0) (A 14) (A 15) (by omega) rfl (by have := hW.2.2; omega) (by omega) (by omega) (by simp) (fun e he => by have := hW.2.1 e he; omega)
  exact this
/-! the hash is odd -/
def ct_odd (h : Int64) : Prop := h.toInt % 2 = 1
theorem ct_bmod2 (a : Int) : a.bmod 18446744073709551616 % 2 = a % 2 := by
  have h := Int.bmod_emod (x := a) (m := 18446744073709551616)
  omega
theorem ct_hs1_odd {h : Int64} {e : ct_KV} (ho : ct_odd h) (he : 0 ≤ e.1 ∧ e.1 < 100 ∧ 0 ≤ e.2 ∧ e.2 < 1048576 ∧ (e.1 + e.2) % 2 = 0) : ct_odd (ct_hs1 h e) := by
  unfold ct_odd ct_hs1 at *
  have t1 : (ct_i e.1 * 31).toInt64.toInt = e.1 * 31 := by
    rw [Int32.toInt_toInt64, ct_l31, ct_mul, ct_iT (by omega) (by omega)]
  have t2 : (ct_i e.2).toInt64.toInt = e.2 := by rw [Int32.toInt_toInt64, ct_iT (by omega) (by omega)]
  rw [Int64.toInt_add, Int64.toInt_add, Int64.toInt_mul, t1, t2]
  have q : (2 : Nat) ^ 64 = 18446744073709551616 := rfl
  simp only [q]
  have c : (1000003 : Int64).toInt = 1000003 := rfl
  rw [c]
  have b1 := ct_bmod2 (((h.toInt * 1000003).bmod 18446744073709551616 + e.1 * 31).bmod 18446744073709551616 + e.2)
  have b2 := ct_bmod2 ((h.toInt * 1000003).bmod 18446744073709551616 + e.1 * 31)
  have b3 := ct_bmod2 (h.toInt * 1000003)
  omega
theorem ct_hs_odd {W : List ct_KV} (h : ct_gd W) : ct_odd (ct_hs W) := by
  unfold ct_hs
  have : ∀ (W : List ct_KV) (z : Int64), ct_odd z → ct_gd W → ct_odd (W.foldl ct_hs1 z) := by
    intro W
    induction W with
    | nil => intro z hz _; exact hz
    | cons e W ih =>
      intro z hz hg
      rw [List.foldl_cons]
      exact ih _ (ct_hs1_odd hz (hg e (by simp))) (fun a ha => hg a (by simp [ha]))
  exact this W 7 (by unfold ct_odd; decide) h
theorem ct_hs_ne {W : List ct_KV} (h : ct_gd W) : ct_hs W ≠ 0 := by
  intro e
  have := ct_hs_odd h
  unfold ct_odd at this
  rw [e] at this
  exact absurd this (by decide)
end
section
/-! ===== 12: the state within a change: what is stable, the hole ===== -/
theorem ct_sw_sh {A : Nat → Int → Int} : ∀ (d : Nat) (x : Int), ct_sh (ct_nd A) d x → A 1 x = ((ct_nd A x).1.length : Int) → (ct_nd A x).1.length ≤ 5 → (∀ q, q ∈ ct_pg (ct_nd A) d x → 0 ≤ q ∧ q < 100 ∧ -128 ≤ A 4 (6 * q)) → ct_sw A d x := by
  intro d
  induction d with
  | zero =>
    intro x hs h1 h2 hq
    have hx := hq x (ct_pg_self _ _ _)
    exact ⟨hx.1, hx.2.1, ct_nd_lf.mp hs, hx.2.2⟩
  | succ d ih =>
    intro x hs h1 h2 hq
    have hx := hq x (ct_pg_self _ _ _)
    simp only [ct_sh] at hs
    refine ⟨hx.1, hx.2.1, by omega, by omega, ?_, fun c hc => ?_⟩
    · have : ¬ (ct_nd A x).2 = [] := by
        intro e
        rw [e] at hs
        simp at hs
      rw [ct_nd_lf] at this
      omega
    · have hw := hs.2 c hc
      refine ih c hw.1 (ct_nd_kc (by omega) hw.2.2) (by omega) (fun q hq' => hq q ?_)
      simp only [ct_pg, List.mem_cons, List.mem_flatten, List.mem_map]
      exact Or.inr ⟨_, ⟨c, hc, rfl⟩, hq'⟩
theorem ct_Cx_sw {A : Nat → Int → Int} : ∀ (fs : List ct_Fr) (d : Nat) (x r : Int), ct_Cx (ct_nd A) d fs x r → ct_sw A d x → (∀ q, q ∈ ct_CP (ct_nd A) d fs → 0 ≤ q ∧ q < 100 ∧ -128 ≤ A 4 (6 * q)) → ct_sw A (d + fs.length) r := by
  intro fs
  induction fs with
  | nil => intro d x r h hs _; simp only [ct_Cx] at h; subst h; exact hs
  | cons f fs ih =>
    obtain ⟨p, ⟨ka, ca⟩, kb, cb⟩ := f
    intro d x r h hs hq
    simp only [ct_Cx] at h
    obtain ⟨h1, h2, h3, h4, h5, h6, h7⟩ := h
    rw [show d + (((p, (ka, ca), (kb, cb)) : ct_Fr) :: fs).length = d + 1 + fs.length by simp; omega]
    have hlo := ct_lo_1 fs
    have hlen : (ct_nd A p).1.length = ka.length + kb.length := by rw [h1]; simp
    have hp := hq p (by simp [ct_CP])
    refine ih (d + 1) p r h7 ⟨hp.1, hp.2.1, ?_, ?_, ?_, fun c hc => ?_⟩ (fun q hq' => hq q (by simp [ct_CP, hq']))
    · have := ct_nd_kc (A := A) (x := p) (by omega) (by omega); omega
    · have := ct_nd_kc (A := A) (x := p) (by omega) (by omega); omega
    · have : ¬ (ct_nd A p).2 = [] := by rw [h1]; simp
      rw [ct_nd_lf] at this
      omega
    · rw [h1] at hc
      simp only [List.mem_append, List.mem_cons] at hc
      have hsib : ∀ c, c ∈ ca ++ cb → ct_sw A d c := by
        intro c hc
        have hw := h6 c hc
        refine ct_sw_sh d c hw.1 (ct_nd_kc (by have := hw.2.1; omega) hw.2.2) (by have := hw.2.2; omega) (fun q hq' => hq q ?_)
        simp only [ct_CP, List.mem_cons, List.mem_append, List.mem_flatten, List.mem_map]
        exact Or.inr (Or.inl ⟨_, ⟨c, List.mem_append.mp hc, rfl⟩, hq'⟩)
      rcases hc with hc | hc | hc
      · exact hsib c (List.mem_append.mpr (Or.inl hc))
      · subst hc; exact hs
      · exact hsib c (List.mem_append.mpr (Or.inr hc))
/-- the stable trees: readers and metas; SP: their pages -/
def ct_St (A : Nat → Int → Int) (D : Nat → Nat) (SP : List Int) : Prop :=
  (∀ k : Nat, k < 3 → ct_rt A (D k) (A 11 k)) ∧ (∀ m : Nat, m < 2 → A 10 m = 0 ∨ (A 10 m = 1 ∧ ct_rt A (D (4 + m)) (A 7 m))) ∧ (∀ q, q ∈ SP ↔ (q ∈ ct_RPs A D 0 3 ∨ q ∈ ct_MPs A D 0 2)) ∧ SP.length ≤ 60 ∧ (∀ q, q ∈ SP → 0 ≤ q ∧ q < 100)
theorem ct_rt_cg {A B : Nat → Int → Int} {d : Nat} {r : Int} (h : ∀ q, q ∈ ct_pg (ct_nd A) d r → ct_nd B q = ct_nd A q ∧ B 1 q = A 1 q ∧ B 4 (6 * q) = A 4 (6 * q)) (hr : ct_rt A d r) : ct_rt B d r := by
  rcases hr with hr | hr
  · exact Or.inl hr
  · refine Or.inr ⟨ct_sw_cg d r h hr.1, ?_⟩
    rw [(ct_cg d r (fun q hq => (h q hq).1)).1]
    exact hr.2
theorem ct_St_cg {A B : Nat → Int → Int} {D : Nat → Nat} {SP : List Int} (h7 : B 7 = A 7) (h10 : B 10 = A 10) (h11 : ∀ k : Int, k ≠ 3 → B 11 k = A 11 k) (h : ∀ q, q ∈ SP → ct_nd B q = ct_nd A q ∧ B 1 q = A 1 q ∧ B 4 (6 * q) = A 4 (6 * q)) (hs : ct_St A D SP) : ct_St B D SP := by
  obtain ⟨s1, s2, s3, s4, s5⟩ := hs
  have hRP : ∀ k : Nat, k < 3 → (∀ q, q ∈ ct_RP A D k → q ∈ SP) := by
    intro k hk q hq
    refine (s3 q).mpr (Or.inl ?_)
    simp only [ct_RPs, List.mem_append]
    have : k = 0 ∨ k = 1 ∨ k = 2 := by omega
    rcases this with e | e | e <;> subst e
    · exact Or.inl hq
    · exact Or.inr (Or.inl hq)
    · exact Or.inr (Or.inr (Or.inl hq))
  have hMP : ∀ m : Nat, m < 2 → (∀ q, q ∈ ct_MP A D m → q ∈ SP) := by
    intro m hm q hq
    refine (s3 q).mpr (Or.inr ?_)
    simp only [ct_MPs, List.mem_append]
    have : m = 0 ∨ m = 1 := by omega
    rcases this with e | e <;> subst e
    · exact Or.inl hq
    · exact Or.inr (Or.inl hq)
  have hR : ∀ k : Nat, k < 3 → ct_RP B D k = ct_RP A D k := by
    intro k hk
    unfold ct_RP
    rw [h11 k (by omega)]
    by_cases e : A 11 k < 0
    · rw [if_pos e, if_pos e]
    · rw [if_neg e, if_neg e]
      refine (ct_cg _ _ (fun q hq => (h q (hRP k hk q ?_)).1)).1
      unfold ct_RP
      rw [if_neg e]; exact hq
  have hM : ∀ m : Nat, m < 2 → ct_MP B D m = ct_MP A D m := by
    intro m hm
    unfold ct_MP
    rw [h7, h10]
    by_cases e : A 10 m = 0 ∨ A 7 m < 0
    · rw [if_pos e, if_pos e]
    · rw [if_neg e, if_neg e]
      refine (ct_cg _ _ (fun q hq => (h q (hMP m hm q ?_)).1)).1
      unfold ct_MP
      rw [if_neg e]; exact hq
  refine ⟨fun k hk => ?_, fun m hm => ?_, fun q => ?_, s4, s5⟩
  · rw [h11 k (by omega)]
    rcases s1 k hk with hr | hr
    · exact Or.inl hr
    · refine ct_rt_cg (fun q hq => h q (hRP k hk q ?_)) (Or.inr hr)
      have := ct_sw_rg hr.1
      unfold ct_RP
      rw [if_neg (by omega)]; exact hq
  · rw [h7, h10]
    rcases s2 m hm with e | ⟨e, hr⟩
    · exact Or.inl e
    · refine Or.inr ⟨e, ?_⟩
      rcases hr with hr | hr
      · exact Or.inl hr
      · refine ct_rt_cg (fun q hq => h q (hMP m hm q ?_)) (Or.inr hr)
        have := ct_sw_rg hr.1
        unfold ct_MP
        rw [if_neg (by omega)]; exact hq
  · rw [s3 q]
    simp only [ct_RPs, ct_MPs]
    rw [hR 0 (by omega), hR 1 (by omega), hR 2 (by omega), hM 0 (by omega), hM 1 (by omega)]
/-- what is stable, and apart from what is fresh -/
def ct_Sx (A : Nat → Int → Int) (D : Nat → Nat) (SP CT : List Int) : Prop := ct_St A D SP ∧ (∀ q, q ∈ CT → q ∈ SP) ∧ (∀ q, q ∈ SP → A 5 q = 0) ∧ (∀ q, 0 ≤ A 5 q ∧ A 5 q ≤ 1)
/-- within a change: the page x (depth d) in the hole of fs below the writer's root; content W -/
def ct_Z (A : Nat → Int → Int) (D : Nat → Nat) (SP CT : List Int) (d : Nat) (fs : List ct_Fr) (x : Int) (W : List ct_KV) : Prop :=
  ct_Cx (ct_nd A) d fs x (A 11 3) ∧ ct_sh (ct_nd A) d x ∧ (ct_pg (ct_nd A) d x ++ ct_CP (ct_nd A) d fs).Nodup ∧
  (∀ q, q ∈ ct_pg (ct_nd A) d x ++ ct_CP (ct_nd A) d fs → 0 ≤ q ∧ q < 100 ∧ -128 ≤ A 4 (6 * q) ∧ (A 5 q = 1 ∨ q ∈ CT)) ∧
  (∀ q, 0 ≤ q → q < 100 → A 5 q ≠ 0 → q ∈ ct_pg (ct_nd A) d x ++ ct_CP (ct_nd A) d fs) ∧
  ct_CL (ct_nd A) d fs ++ (ct_fl (ct_nd A) d x ++ ct_CR (ct_nd A) d fs) = W ∧
  A 1 x = ((ct_nd A x).1.length : Int) ∧ ct_Sx A D SP CT
theorem ct_Z_len {A : Nat → Int → Int} {D : Nat → Nat} {SP CT : List Int} {d : Nat} {fs : List ct_Fr} {x : Int} {W : List ct_KV} (h : ct_Z A D SP CT d fs x W) : 2 * (ct_pg (ct_nd A) d x ++ ct_CP (ct_nd A) d fs).length + (ct_nd A x).1.length ≤ W.length + 3 := by
  obtain ⟨z1, z2, z3, z4, z5, z6, z7, z8⟩ := h
  have a := ct_ct d x z2
  have b := ct_CPc fs d x _ z1
  rw [← z6]
  simp only [List.length_append]
  omega
/-- the conditions of a new page -/
theorem ct_Z_us {A : Nat → Int → Int} {D : Nat → Nat} {SP CT : List Int} {d : Nat} {fs : List ct_Fr} {x : Int} {W : List ct_KV} (h : ct_Z A D SP CT d fs x W) (h1 : 1 ≤ (ct_nd A x).1.length) (h5 : (ct_nd A x).1.length ≤ 5) (hW : W.length ≤ 25) :
    ∃ D' : Nat → Nat, (∀ k : Nat, k < 4 → ct_rt A (D' k) (A 11 k)) ∧ (∀ m : Nat, m < 2 → A 10 m = 0 ∨ (A 10 m = 1 ∧ ct_rt A (D' (4 + m)) (A 7 m))) ∧ (∀ q, ct_us6 A D' q → q ∈ SP ++ (ct_pg (ct_nd A) d x ++ ct_CP (ct_nd A) d fs)) ∧ (∀ q, q ∈ SP → ct_us6 A D' q) ∧ (SP ++ (ct_pg (ct_nd A) d x ++ ct_CP (ct_nd A) d fs)).length < 100 := by
  have hl := ct_Z_len h
  obtain ⟨z1, z2, z3, z4, z5, z6, z7, z8⟩ := h
  obtain ⟨s1, s2, s3, s4, s5⟩ := z8.1
  have hpg := ct_Cx_pg fs d x _ z1
  have hsw : ct_sw A (d + fs.length) (A 11 3) := ct_Cx_sw fs d x _ z1 (ct_sw_sh d x z2 z7 h5 (fun q hq => by have := z4 q (List.mem_append.mpr (Or.inl hq)); exact ⟨this.1, this.2.1, this.2.2.1⟩)) (fun q hq => by have := z4 q (List.mem_append.mpr (Or.inr hq)); exact ⟨this.1, this.2.1, this.2.2.1⟩)
  have hr3 : 0 ≤ A 11 3 := (ct_sw_rg hsw).1
  have hRPs : ∀ D' : Nat → Nat, D' 0 = D 0 → D' 1 = D 1 → D' 2 = D 2 → D' 3 = d + fs.length → D' 4 = D 4 → D' 5 = D 5 → ∀ q, ct_us6 A D' q ↔ (q ∈ SP ∨ q ∈ ct_pg (ct_nd A) (d + fs.length) (A 11 3)) := by
    intro D' e0 e1 e2 e3 e4 e5 q
    have m0 : ct_MP A D' 0 = ct_MP A D 0 := by unfold ct_MP; rw [show 4 + 0 = 4 from rfl, e4]
    have m1 : ct_MP A D' 1 = ct_MP A D 1 := by unfold ct_MP; rw [show 4 + 1 = 5 from rfl, e5]
    have r0 : ct_RP A D' 0 = ct_RP A D 0 := by unfold ct_RP; rw [e0]
    have r1 : ct_RP A D' 1 = ct_RP A D 1 := by unfold ct_RP; rw [e1]
    have r2 : ct_RP A D' 2 = ct_RP A D 2 := by unfold ct_RP; rw [e2]
    have r3 : ct_RP A D' 3 = ct_pg (ct_nd A) (d + fs.length) (A 11 3) := by
      unfold ct_RP; rw [e3]; exact if_neg (by show ¬ A 11 3 < 0; omega)
    rw [s3 q]
    unfold ct_us6
    simp only [ct_RPs, ct_MPs, r0, r1, r2, r3, m0, m1, List.mem_append, List.not_mem_nil, or_false]
    constructor
    · intro h
      rcases h with (h | h | h | h) | h
      · exact Or.inl (Or.inl (Or.inl h))
      · exact Or.inl (Or.inl (Or.inr (Or.inl h)))
      · exact Or.inl (Or.inl (Or.inr (Or.inr h)))
      · exact Or.inr h
      · exact Or.inl (Or.inr h)
    · intro h
      rcases h with ((h | h | h) | h) | h
      · exact Or.inl (Or.inl h)
      · exact Or.inl (Or.inr (Or.inl h))
      · exact Or.inl (Or.inr (Or.inr (Or.inl h)))
      · exact Or.inr h
      · exact Or.inl (Or.inr (Or.inr (Or.inr h)))
  have hus := hRPs (fun k => if k = 3 then d + fs.length else D k) rfl rfl rfl rfl rfl rfl
  refine ⟨fun k => if k = 3 then d + fs.length else D k, fun k hk => ?_, fun m hm => ?_, fun q hq => ?_, fun q hq => (hus q).mpr (Or.inl hq), ?_⟩
  · have : k = 0 ∨ k = 1 ∨ k = 2 ∨ k = 3 := by omega
    rcases this with e | e | e | e <;> subst e
    · exact s1 0 (by omega)
    · exact s1 1 (by omega)
    · exact s1 2 (by omega)
    · refine Or.inr ⟨hsw, ?_⟩
      show (ct_pg (ct_nd A) (d + fs.length) (A 11 3)).length ≤ 100
      rw [hpg.length_eq]
      omega
  · have : m = 0 ∨ m = 1 := by omega
    rcases this with e | e <;> subst e
    · exact s2 0 (by omega)
    · exact s2 1 (by omega)
  · rcases (hus q).mp hq with h | h
    · exact List.mem_append.mpr (Or.inl h)
    · exact List.mem_append.mpr (Or.inr (hpg.mem_iff.mp h))
  · rw [List.length_append]
    omega
theorem ct_Z_new {post : Int32 → St1 → Prop} {A : Nat → Int → Int} {D : Nat → Nat} {SP CT : List Int} {d : Nat} {fs : List ct_Fr} {x : Int} {W : List ct_KV} (h : ct_Z A D SP CT d fs x W) (h1 : 1 ≤ (ct_nd A x).1.length) (h5 : (ct_nd A x).1.length ≤ 5) (hW : W.length ≤ 25)
    (hp : ∀ c f g, 0 ≤ c → c < 100 → c ∉ SP → c ∉ ct_pg (ct_nd A) d x ++ ct_CP (ct_nd A) d fs → A 5 c = 0 → post (ct_i c) (ct_lf (ct_new A c g f))) : wpX_newPage post (ct_lf A) := by
  obtain ⟨D', u1, u2, u3, u4, u5⟩ := ct_Z_us h h1 h5 hW
  obtain ⟨z1, z2, z3, z4, z5, z6, z7, z8⟩ := h
  refine ct_newPage (D := D') u1 u2 z8.2.2.2 _ u5 u3 (fun q h0 h1 h2 => List.mem_append.mpr (Or.inr (z5 q h0 h1 h2))) (fun c f g h0 h1 hu hf => ?_)
  have hc : c ∉ SP := fun h => hu (u4 c h)
  refine hp c f g h0 h1 hc (fun hm => ?_) hf
  rcases (z4 c hm).2.2.2 with e | e
  · omega
  · exact hc (z8.2.1 c e)
theorem ct_Z_fc {post : Int32 → St1 → Prop} {A : Nat → Int → Int} {D : Nat → Nat} {SP CT : List Int} {d : Nat} {fs : List ct_Fr} {x y : Int} {W : List ct_KV} (h : ct_Z A D SP CT d fs x W) (h1 : 1 ≤ (ct_nd A x).1.length) (h5 : (ct_nd A x).1.length ≤ 5) (hW : W.length ≤ 25) (hy : y ∈ ct_pg (ct_nd A) d x ++ ct_CP (ct_nd A) d fs)
    (hp1 : A 5 y = 1 → post (ct_i y) (ct_lf A)) (hp2 : A 5 y = 0 → y ∈ CT → ∀ c f g, 0 ≤ c → c < 100 → c ∉ SP → c ∉ ct_pg (ct_nd A) d x ++ ct_CP (ct_nd A) d fs → A 5 c = 0 → c ≠ y → post (ct_i c) (ct_lf (ct_fc A y c g f))) : wpX_freshCopy post (ct_lf A) (ct_i y) := by
  obtain ⟨D', u1, u2, u3, u4, u5⟩ := ct_Z_us h h1 h5 hW
  obtain ⟨z1, z2, z3, z4, z5, z6, z7, z8⟩ := h
  have hyr := z4 y hy
  have hyc : A 5 y = 0 → y ∈ CT := by
    intro e
    rcases hyr.2.2.2 with e' | e'
    · omega
    · exact e'
  refine ct_freshCopy (D := D') hyr.1 hyr.2.1 u1 u2 z8.2.2.2 _ u5 u3 (fun q h0 h1 h2 => List.mem_append.mpr (Or.inr (z5 q h0 h1 h2))) (fun e => u4 y (z8.2.1 y (hyc e))) hp1 (fun e c f g h0 h1 hu hf hne => ?_)
  have hc : c ∉ SP := fun h => hu (u4 c h)
  refine hp2 e (hyc e) c f g h0 h1 hc (fun hm => ?_) hf hne
  rcases (z4 c hm).2.2.2 with e | e
  · omega
  · exact hc (z8.2.1 c e)
end
section
/-! ===== 13: up and down the way; a copy hung into the hole ===== -/
theorem ct_Z_dn {A : Nat → Int → Int} {D : Nat → Nat} {SP CT : List Int} {d : Nat} {fs : List ct_Fr} {x : Int} {W : List ct_KV} {ka kb : List ct_KV} (h : ct_Z A D SP CT (d + 1) fs x W) (hl1 : ct_lo fs ≤ (ct_nd A x).1.length) (hl2 : (ct_nd A x).1.length ≤ 4) (hnd : (ct_nd A x).1 = ka ++ kb) :
    ∃ ca c cb, ct_nd A x = (ka ++ kb, ca ++ c :: cb) ∧ ka.length = ca.length ∧ kb.length = cb.length ∧ A 4 (6 * x + (ka.length : Int)) = c ∧ 2 ≤ (ct_nd A c).1.length ∧ (ct_nd A c).1.length ≤ 4 ∧ ct_Z A D SP CT d ((x, (ka, ca), (kb, cb)) :: fs) c W := by
  obtain ⟨z1, z2, z3, z4, z5, z6, z7, z8⟩ := h
  have hs := z2
  simp only [ct_sh] at hs
  obtain ⟨ca, c, cb, hc, hca, hcb⟩ := ct_split_at (cs := (ct_nd A x).2) (n := ka.length) (m := kb.length) (by rw [hs.1, hnd]; simp)
  have hnx : ct_nd A x = (ka ++ kb, ca ++ c :: cb) := by rw [← hnd, ← hc]
  have hcm : c ∈ (ct_nd A x).2 := by rw [hc]; simp
  have hch := ct_nd_ch hc
  have hw := hs.2 c hcm
  have hfl := ct_fl_cut (d := d) hnx (by omega)
  have hpm := ct_up_pg (d := d) hnx (ct_CP (ct_nd A) (d + 1) fs)
  refine ⟨ca, c, cb, hnx, by omega, by omega, by rw [← hch, hca], hw.2.1, hw.2.2, ?_, hw.1, hpm.nodup_iff.mp z3, fun q hq => z4 q (hpm.mem_iff.mpr hq), fun q h0 h1 h2 => hpm.mem_iff.mp (z5 q h0 h1 h2), ?_, ct_nd_kc (by omega) hw.2.2, z8⟩
  · simp only [ct_Cx]
    refine ⟨hnx, by omega, by omega, ?_, ?_, fun c' hc' => ?_, z1⟩
    · rw [hnd] at hl1; simpa using hl1
    · rw [hnd] at hl2; simpa using hl2
    · exact hs.2 c' (by rw [hc]; simp only [List.mem_append, List.mem_cons] at hc' ⊢; rcases hc' with h | h; exact Or.inl h; exact Or.inr (Or.inr h))
  · rw [hfl] at z6
    rw [← z6]
    simp [ct_CL, ct_CR]
theorem ct_Z_up {A : Nat → Int → Int} {D : Nat → Nat} {SP CT : List Int} {d : Nat} {fs : List ct_Fr} {x p : Int} {W : List ct_KV} {ka kb : List ct_KV} {ca cb : List Int} (h : ct_Z A D SP CT d ((p, (ka, ca), (kb, cb)) :: fs) x W) (hl1 : 2 ≤ (ct_nd A x).1.length) (hl2 : (ct_nd A x).1.length ≤ 4) :
    ct_Z A D SP CT (d + 1) fs p W ∧ ct_lo fs ≤ (ct_nd A p).1.length ∧ (ct_nd A p).1.length ≤ 4 := by
  obtain ⟨z1, z2, z3, z4, z5, z6, z7, z8⟩ := h
  simp only [ct_Cx] at z1
  obtain ⟨h1, h2, h3, h4, h5, h6, h7⟩ := z1
  have hfl := ct_fl_cut (d := d) h1 h2
  have hpm := ct_up_pg (d := d) h1 (ct_CP (ct_nd A) (d + 1) fs)
  have hlo := ct_lo_1 fs
  have hlen : (ct_nd A p).1.length = ka.length + kb.length := by rw [h1]; simp
  refine ⟨⟨h7, ct_up_sh h1 h2 h3 h6 ⟨z2, hl1, hl2⟩, hpm.nodup_iff.mpr z3, fun q hq => z4 q (hpm.mem_iff.mp hq), fun q g0 g1 g2 => hpm.mem_iff.mpr (z5 q g0 g1 g2), ?_, ct_nd_kc (by omega) (by omega), z8⟩, by omega, by omega⟩
  rw [hfl, ← z6]
  simp [ct_CL, ct_CR]
/-- B is A but for the pages of M (and the writer's root) -/
def ct_Ag (A B : Nat → Int → Int) (M : List Int) : Prop := (B 7 = A 7 ∧ B 10 = A 10 ∧ ∀ k : Int, k ≠ 3 → B 11 k = A 11 k) ∧ ∀ q, q ∉ M → ct_nd B q = ct_nd A q ∧ B 1 q = A 1 q ∧ B 4 (6 * q) = A 4 (6 * q)
theorem ct_Sx_ag {A B : Nat → Int → Int} {D : Nat → Nat} {SP CT M : List Int} (h : ct_Ag A B M) (hM : ∀ q, q ∈ M → q ∉ SP) (h5 : ∀ q, q ∈ SP → B 5 q = A 5 q) (h5' : ∀ q, 0 ≤ B 5 q ∧ B 5 q ≤ 1) (hs : ct_Sx A D SP CT) : ct_Sx B D SP CT :=
  ⟨ct_St_cg h.1.1 h.1.2.1 h.1.2.2 (fun q hq => h.2 q (fun hm => hM q hm hq)) hs.1, hs.2.1, fun q hq => by rw [h5 q hq]; exact hs.2.2.1 q hq, h5'⟩
/-- a fresh page isn't stable -/
theorem ct_Sx_fr {A : Nat → Int → Int} {D : Nat → Nat} {SP CT : List Int} {q : Int} (hs : ct_Sx A D SP CT) (h : A 5 q = 1) : q ∉ SP := by
  intro hq
  have := hs.2.2.1 q hq
  omega
/-- the top renamed -/
theorem ct_rn {H H' : ct_Hp} {d : Nat} {x c : Int} (h1 : H' c = H x) (h2 : ∀ q, q ∈ ct_pg H d x → q ≠ x → H' q = H q) (hn : (ct_pg H d x).Nodup) : ct_fl H' d c = ct_fl H d x ∧ (ct_sh H d x → ct_sh H' d c) ∧ ∃ tl, ct_pg H d x = x :: tl ∧ ct_pg H' d c = c :: tl := by
  cases d with
  | zero => exact ⟨by simp [ct_fl, h1], by simp [ct_sh, h1], [], rfl, rfl⟩
  | succ d =>
    have hc : ∀ c', c' ∈ (H x).2 → ∀ q, q ∈ ct_pg H d c' → H' q = H q := by
      intro c' hc' q hq
      have hm : q ∈ ((H x).2.map (ct_pg H d)).flatten := by
        simp only [List.mem_flatten, List.mem_map]
        exact ⟨_, ⟨c', hc', rfl⟩, hq⟩
      simp only [ct_pg, List.nodup_cons] at hn
      refine h2 q ?_ (fun e => hn.1 (e ▸ hm))
      simp only [ct_pg, List.mem_cons]
      exact Or.inr hm
    refine ⟨?_, ?_, ((H x).2.map (ct_pg H d)).flatten, rfl, ?_⟩
    · simp only [ct_fl, h1]
      rw [List.map_congr_left (fun c' hc' => (ct_cg d c' (hc c' hc')).2.1)]
    · simp only [ct_sh, h1]
      intro hs
      refine ⟨hs.1, fun c' hc' => ?_⟩
      exact ct_wf_cg (hc c' hc') (hs.2 c' hc')
    · simp only [ct_pg, h1]
      rw [List.map_congr_left (fun c' hc' => (ct_cg d c' (hc c' hc')).1)]
/-- another page in the hole -/
theorem ct_Cx_hole {H H' : ct_Hp} {d : Nat} {fs : List ct_Fr} {p x c r : Int} {ka kb : List ct_KV} {ca cb : List Int} (h : ct_Cx H d ((p, (ka, ca), (kb, cb)) :: fs) x r) (hp : H' p = (ka ++ kb, ca ++ c :: cb)) (hq : ∀ q, q ∈ ct_CP H d ((p, (ka, ca), (kb, cb)) :: fs) → q ≠ p → H' q = H q) (hn : (ct_CP H d ((p, (ka, ca), (kb, cb)) :: fs)).Nodup) :
    ct_Cx H' d ((p, (ka, ca), (kb, cb)) :: fs) c r ∧ ct_CP H' d ((p, (ka, ca), (kb, cb)) :: fs) = ct_CP H d ((p, (ka, ca), (kb, cb)) :: fs) ∧ ct_CL H' d ((p, (ka, ca), (kb, cb)) :: fs) = ct_CL H d ((p, (ka, ca), (kb, cb)) :: fs) ∧ ct_CR H' d ((p, (ka, ca), (kb, cb)) :: fs) = ct_CR H d ((p, (ka, ca), (kb, cb)) :: fs) := by
  simp only [ct_Cx] at h
  obtain ⟨h1, h2, h3, h4, h5, h6, h7⟩ := h
  simp only [ct_CP, List.nodup_cons] at hn
  have hs : ∀ c', c' ∈ ca ++ cb → ∀ q, q ∈ ct_pg H d c' → H' q = H q := by
    intro c' hc q hq'
    have hm : q ∈ ((ca ++ cb).map (ct_pg H d)).flatten ++ ct_CP H (d + 1) fs := by
      simp only [List.mem_append, List.mem_flatten, List.mem_map]
      exact Or.inl ⟨_, ⟨c', List.mem_append.mp hc, rfl⟩, hq'⟩
    refine hq q ?_ (fun e => hn.1 (e ▸ hm))
    simp only [ct_CP, List.mem_cons]
    exact Or.inr hm
  have hu : ∀ q, q ∈ ct_CP H (d + 1) fs → H' q = H q := by
    intro q hq'
    have hm : q ∈ ((ca ++ cb).map (ct_pg H d)).flatten ++ ct_CP H (d + 1) fs := List.mem_append.mpr (Or.inr hq')
    refine hq q ?_ (fun e => hn.1 (e ▸ hm))
    simp only [ct_CP, List.mem_cons]
    exact Or.inr hm
  obtain ⟨i1, i2, i3, i4⟩ := ct_Cx_cg fs (d + 1) p r hu
  refine ⟨?_, ?_, ?_, ?_⟩
  · simp only [ct_Cx]
    exact ⟨hp, h2, h3, h4, h5, fun c' hc => ct_wf_cg (hs c' hc) (h6 c' hc), i1 h7⟩
  · simp only [ct_CP]
    rw [i2, List.map_congr_left (fun c' hc => (ct_cg d c' (hs c' hc)).1)]
  · simp only [ct_CL]
    rw [i3, List.map_congr_left (fun c' hc => (ct_cg d c' (hs c' (List.mem_append.mpr (Or.inl hc)))).2.1)]
  · simp only [ct_CR]
    rw [i4, List.map_congr_left (fun c' hc => (ct_cg d c' (hs c' (List.mem_append.mpr (Or.inr hc)))).2.1)]
/-- a child of page p written -/
def ct_chd (A : Nat → Int → Int) (p i c : Int) : Nat → Int → Int := ct_st A 4 (ct_up (A 4) (6 * p + i) c)
theorem ct_nd_chd {A : Nat → Int → Int} {p c x : Int} {ks : List ct_KV} {ca cb : List Int} (h : ct_nd A p = (ks, ca ++ x :: cb)) (hl : ca.length ≤ 5) (hc : 0 ≤ c) : ct_nd (ct_chd A p ca.length c) p = (ks, ca ++ c :: cb) := by
  have h2 : (ct_nd A p).2 = ca ++ x :: cb := by rw [h]
  have hn4 : ¬ A 4 (6 * p) < 0 := by
    intro e
    rw [ct_nd_lf.mpr e] at h2
    simp at h2
  have h1 : (ct_nd A p).1 = ks := by rw [h]
  have hsg : ct_sg (A 4) (6 * p) (ct_kn A p + 1) = ca ++ x :: cb := by
    rw [← h2]
    unfold ct_nd
    simp only [hn4, if_false]
  have hlen : ct_kn A p + 1 = ca.length + (cb.length + 1) := by
    have := congrArg List.length hsg
    rw [ct_sg_len] at this
    simpa using this
  obtain ⟨s1, s2⟩ := ct_sg_spl ca _ _ hsg
  have hk5 : ct_kn A p ≤ 5 := by unfold ct_kn; omega
  unfold ct_nd
  have hk : ct_kn (ct_chd A p ca.length c) p = ct_kn A p := rfl
  rw [hk]
  have e1 : ct_sg (fun j => (ct_chd A p ca.length c 2 j, ct_chd A p ca.length c 3 j)) (5 * p) (ct_kn A p) = ks := by
    rw [← h1]
    rfl
  have e2 : ¬ ct_chd A p ca.length c 4 (6 * p) < 0 := by
    show ¬ ct_up (A 4) (6 * p + ca.length) c (6 * p) < 0
    unfold ct_up
    split <;> omega
  have e3 : ct_sg (ct_chd A p ca.length c 4) (6 * p) (ct_kn A p + 1) = ca ++ c :: cb := by
    show ct_sg (ct_up (A 4) (6 * p + ca.length) c) (6 * p) (ct_kn A p + 1) = ca ++ c :: cb
    rw [hlen, ct_sg_app]
    have a1 : ct_sg (ct_up (A 4) (6 * p + ca.length) c) (6 * p) ca.length = ca := by
      refine Eq.trans (ct_sg_cg _ _ _ (fun j hj hn => ?_)) s1
      exact ct_un (by omega)
    have a2 : ct_sg (ct_up (A 4) (6 * p + ca.length) c) (6 * p + ca.length) (cb.length + 1) = c :: cb := by
      simp only [ct_sg, List.length_cons] at s2 ⊢
      rw [ct_us]
      have := (List.cons.inj s2).2
      congr 1
      refine Eq.trans (ct_sg_cg _ _ _ (fun j hj hn => ?_)) this
      exact ct_un (by omega)
    rw [a1, a2]
  rw [e1, if_neg e2, e3]
theorem ct_up_self {f : Int → Int} {z : Int} : ct_up f z (f z) = f := by
  funext j
  unfold ct_up
  split
  · rename_i e; rw [e]
  · rfl
/-- the heap with the copy c of x hung under p -/
theorem ct_Z_cp {A : Nat → Int → Int} {D : Nat → Nat} {SP CT : List Int} {d : Nat} {fs : List ct_Fr} {x p c : Int} {W : List ct_KV} {ka kb : List ct_KV} {ca cb : List Int} {f g : Int → Int} (h : ct_Z A D SP CT d ((p, (ka, ca), (kb, cb)) :: fs) x W) (hpf : A 5 p = 1) (hxf : A 5 x = 0) (hc0 : 0 ≤ c) (hc1 : c < 100) (hcS : c ∉ SP) (hcW : c ∉ ct_pg (ct_nd A) d x ++ ct_CP (ct_nd A) d ((p, (ka, ca), (kb, cb)) :: fs)) :
    ct_Z (ct_chd (ct_fc A x c g f) p ka.length c) D SP CT d ((p, (ka, ca), (kb, cb)) :: fs) c W ∧ ct_nd (ct_chd (ct_fc A x c g f) p ka.length c) c = ct_nd A x ∧ (∀ q, q ∈ SP → ct_nd (ct_chd (ct_fc A x c g f) p ka.length c) q = ct_nd A q ∧ ct_chd (ct_fc A x c g f) p ka.length c 4 (6 * q) = A 4 (6 * q)) := by
  obtain ⟨z1, z2, z3, z4, z5, z6, z7, z8⟩ := h
  have z1' := z1
  simp only [ct_Cx] at z1'
  obtain ⟨h1, h2, h3, h4, h5, h6, h7⟩ := z1'
  have hxW : x ∈ ct_pg (ct_nd A) d x ++ ct_CP (ct_nd A) d ((p, (ka, ca), (kb, cb)) :: fs) := List.mem_append.mpr (Or.inl (ct_pg_self _ _ _))
  have hpW : p ∈ ct_pg (ct_nd A) d x ++ ct_CP (ct_nd A) d ((p, (ka, ca), (kb, cb)) :: fs) := List.mem_append.mpr (Or.inr (by simp [ct_CP]))
  have hxc : x ≠ c := fun e => hcW (e ▸ hxW)
  have hpc : p ≠ c := fun e => hcW (e ▸ hpW)
  have hnd := List.nodup_append.mp z3
  have hpx : p ∉ ct_pg (ct_nd A) d x := fun hm => hnd.2.2 p hm p (by simp [ct_CP]) rfl
  have hpx' : p ≠ x := fun e => hpx (e ▸ ct_pg_self _ _ _)
  have hxr := z4 x hxW
  have hB : ∀ q, q ≠ c → q ≠ p → ct_nd (ct_chd (ct_fc A x c g f) p ka.length c) q = ct_nd A q := by
    intro q hqc hqp
    rw [← ct_nd_fc (A := A) (x := x) (g := g) (f := f) hqc]
    exact ct_nd_cg rfl (fun j _ _ => ⟨rfl, rfl⟩) (fun j _ _ => ct_un (by omega))
  have hBp : ct_nd (ct_chd (ct_fc A x c g f) p ka.length c) p = (ka ++ kb, ca ++ c :: cb) := by
    rw [h2]
    exact ct_nd_chd (x := x) (by rw [ct_nd_fc hpc]; exact h1) (by omega) hc0
  have hBc : ct_nd (ct_chd (ct_fc A x c g f) p ka.length c) c = ct_nd A x := by
    rw [← ct_nd_fc_c (A := A) (x := x) (g := g) (f := f) hxc]
    exact ct_nd_cg rfl (fun j _ _ => ⟨rfl, rfl⟩) (fun j _ _ => ct_un (by omega))
  have hB4 : ∀ q, q ≠ c → q ≠ p → ct_chd (ct_fc A x c g f) p ka.length c 4 (6 * q) = A 4 (6 * q) := by
    intro q hqc hqp
    show ct_up (ct_cp (ct_up (A 4) (6 * c) (-1)) (6 * c) (6 * x) 6) (6 * p + ka.length) c (6 * q) = A 4 (6 * q)
    rw [ct_un (by omega), ct_cp_out (by omega), ct_un (by omega)]
  have hB5 : ∀ q, q ≠ c → ct_chd (ct_fc A x c g f) p ka.length c 5 q = A 5 q := fun q hq => ct_un hq
  have hB5c : ct_chd (ct_fc A x c g f) p ka.length c 5 c = 1 := ct_us
  have hB1 : ∀ q, q ≠ c → ct_chd (ct_fc A x c g f) p ka.length c 1 q = A 1 q := by
    intro q hq
    show ct_up (ct_up (A 1) c 0) c (A 1 x) q = A 1 q
    rw [ct_un hq, ct_un hq]
  have hB1c : ct_chd (ct_fc A x c g f) p ka.length c 1 c = A 1 x := ct_us
  obtain ⟨r1, r2, tl, r3, r4⟩ := ct_rn (H := ct_nd A) (H' := ct_nd (ct_chd (ct_fc A x c g f) p ka.length c)) (d := d) hBc (fun q hq _ => hB q (fun e => hcW (e ▸ List.mem_append.mpr (Or.inl hq))) (fun e => hpx (e ▸ hq))) hnd.1
  obtain ⟨c1, c2, c3, c4⟩ := ct_Cx_hole (H' := ct_nd (ct_chd (ct_fc A x c g f) p ka.length c)) (c := c) z1 hBp (fun q hq hqp => hB q (fun e => hcW (e ▸ List.mem_append.mpr (Or.inr hq))) hqp) hnd.2.1
  refine ⟨⟨c1, r2 z2, ?_, ?_, ?_, ?_, ?_, ?_⟩, hBc, fun q hq => ?_⟩
  · rw [r4, c2]
    rw [r3] at z3 hcW
    rw [List.cons_append, List.nodup_cons] at z3 ⊢
    exact ⟨fun hm => hcW (by simp only [List.cons_append, List.mem_cons]; exact Or.inr hm), z3.2⟩
  · rw [r4, c2]
    intro q hq
    rw [List.cons_append, List.mem_cons] at hq
    rcases hq with e | hq
    · subst e
      refine ⟨hc0, hc1, ?_, Or.inl hB5c⟩
      show -128 ≤ ct_up (ct_cp (ct_up (A 4) (6 * q) (-1)) (6 * q) (6 * x) 6) (6 * p + ka.length) q (6 * q)
      rw [ct_un (by omega)]
      have := ct_cp_in (f := ct_up (A 4) (6 * q) (-1)) (d := 6 * q) (s := 6 * x) (n := 6) (j := 0) (by omega) (by omega)
      rw [Int.add_zero, Int.add_zero, ct_un (by omega)] at this
      rw [this]
      exact hxr.2.2.1
    · have hqW : q ∈ ct_pg (ct_nd A) d x ++ ct_CP (ct_nd A) d ((p, (ka, ca), (kb, cb)) :: fs) := by rw [r3, List.cons_append]; exact List.mem_cons_of_mem _ hq
      have hqc : q ≠ c := fun e => hcW (e ▸ hqW)
      have := z4 q hqW
      refine ⟨this.1, this.2.1, ?_, ?_⟩
      · by_cases e : q = p
        · subst e
          show -128 ≤ ct_up (ct_cp (ct_up (A 4) (6 * c) (-1)) (6 * c) (6 * x) 6) (6 * q + ka.length) c (6 * q)
          by_cases e0 : ka.length = 0
          · rw [show 6 * q + (ka.length : Int) = 6 * q by omega, ct_us]; omega
          · rw [ct_un (by omega), ct_cp_out (by omega), ct_un (by omega)]; exact this.2.2.1
        · rw [hB4 q hqc e]; exact this.2.2.1
      · rw [hB5 q hqc]; exact this.2.2.2
  · intro q g0 g1 g2
    rw [r4, c2, List.cons_append, List.mem_cons]
    by_cases e : q = c
    · exact Or.inl e
    · rw [hB5 q e] at g2
      have := z5 q g0 g1 g2
      rw [r3, List.cons_append, List.mem_cons] at this
      rcases this with e' | e'
      · rw [e'] at g2; exact absurd hxf g2
      · exact Or.inr e'
  · rw [c3, c4, r1]; exact z6
  · rw [hB1c, hBc]; exact z7
  · refine ct_Sx_ag (A := A) (M := [c, p]) ⟨⟨rfl, rfl, fun _ _ => rfl⟩, fun q hq => ?_⟩ ?_ ?_ ?_ z8
    · simp only [List.mem_cons, List.not_mem_nil, or_false, not_or] at hq
      exact ⟨hB q hq.1 hq.2, hB1 q hq.1, hB4 q hq.1 hq.2⟩
    · intro q hq
      simp only [List.mem_cons, List.not_mem_nil, or_false] at hq
      rcases hq with e | e
      · rw [e]; exact hcS
      · rw [e]; exact ct_Sx_fr z8 hpf
    · intro q hq
      exact hB5 q (fun e => hcS (e ▸ hq))
    · intro q
      by_cases e : q = c
      · rw [e, hB5c]; omega
      · rw [hB5 q e]; exact z8.2.2.2 q
  · have qc : q ≠ c := fun e => hcS (e ▸ hq)
    have qp : q ≠ p := fun e => ct_Sx_fr z8 hpf (e ▸ hq)
    exact ⟨hB q qc qp, hB4 q qc qp⟩
/-- the same at the root -/
theorem ct_Z_cp0 {A : Nat → Int → Int} {D : Nat → Nat} {SP CT : List Int} {d : Nat} {x c : Int} {W : List ct_KV} {f g : Int → Int} (h : ct_Z A D SP CT d [] x W) (hxf : A 5 x = 0) (hc0 : 0 ≤ c) (hc1 : c < 100) (hcS : c ∉ SP) (hcW : c ∉ ct_pg (ct_nd A) d x ++ ct_CP (ct_nd A) d []) :
    ct_Z (ct_st (ct_fc A x c g f) 11 (ct_up (A 11) 3 c)) D SP CT d [] c W ∧ ct_nd (ct_st (ct_fc A x c g f) 11 (ct_up (A 11) 3 c)) c = ct_nd A x ∧ (∀ q, q ∈ SP → ct_nd (ct_st (ct_fc A x c g f) 11 (ct_up (A 11) 3 c)) q = ct_nd A q ∧ ct_st (ct_fc A x c g f) 11 (ct_up (A 11) 3 c) 4 (6 * q) = A 4 (6 * q)) := by
  obtain ⟨z1, z2, z3, z4, z5, z6, z7, z8⟩ := h
  have hxW : x ∈ ct_pg (ct_nd A) d x ++ ct_CP (ct_nd A) d [] := List.mem_append.mpr (Or.inl (ct_pg_self _ _ _))
  have hxc : x ≠ c := fun e => hcW (e ▸ hxW)
  have hnd := List.nodup_append.mp z3
  have hxr := z4 x hxW
  have hB : ∀ q, q ≠ c → ct_nd (ct_st (ct_fc A x c g f) 11 (ct_up (A 11) 3 c)) q = ct_nd A q := by
    intro q hqc
    rw [← ct_nd_fc (A := A) (x := x) (g := g) (f := f) hqc]
    rfl
  have hBc : ct_nd (ct_st (ct_fc A x c g f) 11 (ct_up (A 11) 3 c)) c = ct_nd A x := by
    rw [← ct_nd_fc_c (A := A) (x := x) (g := g) (f := f) hxc]
    rfl
  have hB4 : ∀ q, q ≠ c → ct_st (ct_fc A x c g f) 11 (ct_up (A 11) 3 c) 4 (6 * q) = A 4 (6 * q) := by
    intro q hqc
    show ct_cp (ct_up (A 4) (6 * c) (-1)) (6 * c) (6 * x) 6 (6 * q) = A 4 (6 * q)
    rw [ct_cp_out (by omega), ct_un (by omega)]
  have hB5 : ∀ q, q ≠ c → ct_st (ct_fc A x c g f) 11 (ct_up (A 11) 3 c) 5 q = A 5 q := fun q hq => ct_un hq
  have hB5c : ct_st (ct_fc A x c g f) 11 (ct_up (A 11) 3 c) 5 c = 1 := ct_us
  have hB1 : ∀ q, q ≠ c → ct_st (ct_fc A x c g f) 11 (ct_up (A 11) 3 c) 1 q = A 1 q := by
    intro q hq
    show ct_up (ct_up (A 1) c 0) c (A 1 x) q = A 1 q
    rw [ct_un hq, ct_un hq]
  have hB1c : ct_st (ct_fc A x c g f) 11 (ct_up (A 11) 3 c) 1 c = A 1 x := ct_us
  have hB11 : ct_st (ct_fc A x c g f) 11 (ct_up (A 11) 3 c) 11 3 = c := show ct_up (A 11) 3 c 3 = c from ct_us
  obtain ⟨r1, r2, tl, r3, r4⟩ := ct_rn (H := ct_nd A) (H' := ct_nd (ct_st (ct_fc A x c g f) 11 (ct_up (A 11) 3 c))) (d := d) hBc (fun q hq _ => hB q (fun e => hcW (e ▸ List.mem_append.mpr (Or.inl hq)))) hnd.1
  refine ⟨⟨?_, r2 z2, ?_, ?_, ?_, ?_, ?_, ?_⟩, hBc, fun q hq => ?_⟩
  · simp only [ct_Cx]; exact hB11.symm
  · rw [r4]
    rw [r3] at z3 hcW
    simp only [ct_CP, List.append_nil, List.nodup_cons] at z3 hcW ⊢
    exact ⟨fun hm => hcW (List.mem_cons_of_mem _ hm), z3.2⟩
  · rw [r4]
    intro q hq
    simp only [ct_CP, List.append_nil, List.mem_cons] at hq
    rcases hq with e | hq
    · subst e
      refine ⟨hc0, hc1, ?_, Or.inl hB5c⟩
      show -128 ≤ ct_cp (ct_up (A 4) (6 * q) (-1)) (6 * q) (6 * x) 6 (6 * q)
      have := ct_cp_in (f := ct_up (A 4) (6 * q) (-1)) (d := 6 * q) (s := 6 * x) (n := 6) (j := 0) (by omega) (by omega)
      rw [Int.add_zero, Int.add_zero, ct_un (by omega)] at this
      rw [this]
      exact hxr.2.2.1
    · have hqW : q ∈ ct_pg (ct_nd A) d x ++ ct_CP (ct_nd A) d [] := by rw [r3, List.cons_append]; exact List.mem_cons_of_mem _ (List.mem_append.mpr (Or.inl hq))
      have hqc : q ≠ c := fun e => hcW (e ▸ hqW)
      have := z4 q hqW
      refine ⟨this.1, this.2.1, ?_, ?_⟩
      · rw [hB4 q hqc]; exact this.2.2.1
      · rw [hB5 q hqc]; exact this.2.2.2
  · intro q g0 g1 g2
    rw [r4]
    simp only [ct_CP, List.append_nil, List.mem_cons]
    by_cases e : q = c
    · exact Or.inl e
    · rw [hB5 q e] at g2
      have := z5 q g0 g1 g2
      rw [r3] at this
      simp only [ct_CP, List.append_nil, List.mem_cons] at this
      rcases this with e' | e'
      · rw [e'] at g2; exact absurd hxf g2
      · exact Or.inr e'
  · rw [r1]; exact z6
  · rw [hB1c, hBc]; exact z7
  · refine ct_Sx_ag (A := A) (M := [c]) ⟨⟨rfl, rfl, fun k hk => ct_un hk⟩, fun q hq => ?_⟩ ?_ ?_ ?_ z8
    · simp only [List.mem_cons, List.not_mem_nil, or_false] at hq
      exact ⟨hB q hq, hB1 q hq, hB4 q hq⟩
    · intro q hq
      simp only [List.mem_cons, List.not_mem_nil, or_false] at hq
      rw [hq]; exact hcS
    · intro q hq
      exact hB5 q (fun e => hcS (e ▸ hq))
    · intro q
      by_cases e : q = c
      · rw [e, hB5c]; omega
      · rw [hB5 q e]; exact z8.2.2.2 q
  · have qc : q ≠ c := fun e => hcS (e ▸ hq)
    exact ⟨hB q qc, hB4 q qc⟩
/-- the other arrays stand -/
def ct_Ot (SP : List Int) (A B : Nat → Int → Int) : Prop := (B 7 = A 7 ∧ B 8 = A 8 ∧ B 9 = A 9 ∧ B 10 = A 10 ∧ B 12 = A 12 ∧ B 13 = A 13 ∧ ∀ k : Int, k ≠ 3 → B 11 k = A 11 k) ∧ ∀ q, q ∈ SP → ct_nd B q = ct_nd A q ∧ B 4 (6 * q) = A 4 (6 * q)
theorem ct_Ot_r (SP : List Int) (A : Nat → Int → Int) : ct_Ot SP A A := ⟨⟨rfl, rfl, rfl, rfl, rfl, rfl, fun _ _ => rfl⟩, fun _ _ => ⟨rfl, rfl⟩⟩
theorem ct_Ot_t {SP : List Int} {A B C : Nat → Int → Int} (h1' : ct_Ot SP A B) (h2' : ct_Ot SP B C) : ct_Ot SP A C := by
  obtain ⟨h1, g1⟩ := h1'
  obtain ⟨h2, g2⟩ := h2'
  exact ⟨⟨by rw [h2.1, h1.1], by rw [h2.2.1, h1.2.1], by rw [h2.2.2.1, h1.2.2.1], by rw [h2.2.2.2.1, h1.2.2.2.1], by rw [h2.2.2.2.2.1, h1.2.2.2.2.1], by rw [h2.2.2.2.2.2.1, h1.2.2.2.2.2.1], fun k hk => by rw [h2.2.2.2.2.2.2 k hk, h1.2.2.2.2.2.2 k hk]⟩, fun q hq => ⟨by rw [(g2 q hq).1, (g1 q hq).1], by rw [(g2 q hq).2, (g1 q hq).2]⟩⟩
def ct_Dn (H : ct_Hp) (f g : Int → Int) (K : List ct_KV) : Nat → List (List ct_KV × List ct_KV) → Int → Prop
  | l, [], y => f (l : Int) = y ∧ (H y).1 = K
  | l, t :: ts, y => f (l : Int) = y ∧ g (l : Int) = (t.1.length : Int) ∧ (H y).1 = t.1 ++ t.2 ∧ ∃ ca c cb, (H y).2 = ca ++ c :: cb ∧ ca.length = t.1.length ∧ ct_Dn H f g K (l + 1) ts c
theorem ct_Dn_cg {H H' : ct_Hp} {f f' g : Int → Int} {K : List ct_KV} : ∀ (ts : List (List ct_KV × List ct_KV)) (d l : Nat) (y : Int), ts.length ≤ d → (∀ q, q ∈ ct_pg H d y → H' q = H q) → (∀ j : Int, (l : Int) ≤ j → f' j = f j) → ct_Dn H f g K l ts y → ct_Dn H' f' g K l ts y := by
  intro ts
  induction ts with
  | nil =>
    intro d l y _ hq hf h
    exact ⟨by rw [hf l (by omega)]; exact h.1, by rw [hq y (ct_pg_self _ _ _)]; exact h.2⟩
  | cons t ts ih =>
    intro d l y hd hq hf h
    obtain ⟨h1, h2, h3, ca, c, cb, h4, h5, h6⟩ := h
    have e := hq y (ct_pg_self _ _ _)
    cases d with
    | zero => simp at hd
    | succ d =>
      refine ⟨by rw [hf l (by omega)]; exact h1, h2, by rw [e]; exact h3, ca, c, cb, by rw [e]; exact h4, h5, ih d (l + 1) c (by simpa using hd) (fun q hq' => hq q ?_) (fun j hj => hf j (by omega)) h6⟩
      simp only [ct_pg, List.mem_cons, List.mem_flatten, List.mem_map]
      exact Or.inr ⟨_, ⟨c, by rw [h4]; simp, rfl⟩, hq'⟩
def ct_ky (fr : ct_Fr) : List ct_KV × List ct_KV := (fr.2.1.1, fr.2.2.1)
theorem ct_Dn_of {H : ct_Hp} {f g : Int → Int} {K : List ct_KV} : ∀ (fs : List ct_Fr) (d : Nat) (x r : Int) (ts : List (List ct_KV × List ct_KV)), ct_Cx H d fs x r → ct_Wy f g fs → ct_Dn H f g K fs.length ts x → ct_Dn H f g K 0 ((fs.map ct_ky).reverse ++ ts) r := by
  intro fs
  induction fs with
  | nil => intro d x r ts h _ hd; simp only [ct_Cx] at h; subst h; exact hd
  | cons fr fs ih =>
    obtain ⟨p, ⟨ka, ca⟩, kb, cb⟩ := fr
    intro d x r ts h hw hd
    simp only [ct_Cx] at h
    obtain ⟨h1, h2, h3, h4, h5, h6, h7⟩ := h
    have := ih (d + 1) p r ((ka, kb) :: ts) h7 hw.2.2 ⟨hw.1, hw.2.1, by rw [h1], ca, x, cb, by rw [h1], h2.symm, hd⟩
    simp only [List.map_cons, List.reverse_cons, List.append_assoc, List.cons_append, List.nil_append]
    exact this
def ct_cwP (P : (Nat → Int32) → (Nat → Int32) → (Nat → Int32) → Int32 → Prop) (f4 f11 f g : Int → Int) (l y' : Int) : Prop :=
  vp_in (ct_i l) 8 ∧ ∀ a14 : Nat → Int32, a14 = upd (ct_c f) (ct_i l).toNatClampNeg (ct_i y').toInt8.toInt32 → ((ct_i l = 0 → ∀ a11 : Nat → Int32, a11 = upd (ct_c f11) 3 (ct_i y').toInt8.toInt32 → ∀ x1 : Int32, x1 = ct_i l + 1 → P (ct_c f4) a11 a14 x1) ∧ (¬ ct_i l = 0 → vp_in (ct_i l - 1) 8 ∧ vp_in (ct_i l - 1) 8 ∧ vp_in (6 * a14 (ct_i l - 1).toNatClampNeg + ct_c g (ct_i l - 1).toNatClampNeg) 600 ∧ ∀ a4 : Nat → Int32, a4 = upd (ct_c f4) (6 * a14 (ct_i l - 1).toNatClampNeg + ct_c g (ct_i l - 1).toNatClampNeg).toNatClampNeg (ct_i y').toInt8.toInt32 → ∀ x1 : Int32, x1 = ct_i l + 1 → P a4 (ct_c f11) a14 x1))
theorem ct_cw_st {P : (Nat → Int32) → (Nat → Int32) → (Nat → Int32) → Int32 → Prop} {f4 f11 f g : Int → Int} {l y' : Int} (hl0 : 0 ≤ l) (hl8 : l < 8) (h0 : l = 0 → P (ct_c f4) (ct_c (ct_up f11 3 y')) (ct_c (ct_up f l y')) (ct_i (l + 1))) (h1 : l ≠ 0 → 0 ≤ f (l - 1) ∧ f (l - 1) < 100 ∧ 0 ≤ g (l - 1) ∧ g (l - 1) ≤ 4 ∧ P (ct_c (ct_up f4 (6 * f (l - 1) + g (l - 1)) y')) (ct_c f11) (ct_c (ct_up f l y')) (ct_i (l + 1))) : ct_cwP P f4 f11 f g l y' := by
  have e1 : ct_i l + 1 = ct_i (l + 1) := ct_add _ 1
  refine ⟨ct_in (by omega) (by omega) (by decide), nm_r (e' := ct_c (ct_up f l y')) (by rw [ct_tb, ct_wc (by omega) (by omega)]) ?_⟩
  by_cases h : l = 0
  · refine br_t (by rw [h]; rfl) (nm_r (e' := ct_c (ct_up f11 3 y')) (by rw [ct_tb, ct_wc3]) (nm_r e1 (h0 h)))
  · obtain ⟨k1, k2, k3, k4, k5⟩ := h1 h
    have em : ct_i l - 1 = ct_i (l - 1) := by rw [ct_l1, ct_sub]
    have er : ct_c (ct_up f l y') (ct_i (l - 1)).toNatClampNeg = ct_i (f (l - 1)) := by
      rw [ct_rc (by omega) (by omega), ct_un (by omega), ct_bI (by omega) (by omega)]
    have eg : ct_c g (ct_i (l - 1)).toNatClampNeg = ct_i (g (l - 1)) := by
      rw [ct_rc (by omega) (by omega), ct_bI (by omega) (by omega)]
    have e6 : (6 : Int32) * ct_i (f (l - 1)) + ct_i (g (l - 1)) = ct_i (6 * f (l - 1) + g (l - 1)) := by rw [ct_l6, ct_mul, ct_add]
    refine br_f ?_ ?_
    · rw [ct_l0, ct_eq (by omega) (by omega) (by omega) (by omega)]; omega
    rw [em, er, eg, e6]
    exact ⟨ct_in (by omega) (by omega) (by decide), ct_in (by omega) (by omega) (by decide), ct_in (by omega) (by omega) (by decide), nm_r (e' := ct_c (ct_up f4 (6 * f (l - 1) + g (l - 1)) y')) (by rw [ct_tb, ct_wc (by omega) (by omega)]) (nm_r e1 k5)⟩
theorem ct_Wy_f {f g : Int → Int} {v : Int} : ∀ (fs : List ct_Fr) (k : Int), (fs.length : Int) ≤ k → ct_Wy f g fs → ct_Wy (ct_up f k v) g fs := by
  intro fs k hk h
  have := ct_Wy_up (v := v) (w := g k) fs k k hk hk h
  rw [ct_up_self] at this
  exact this
theorem ct_copyWay_it {post : St1 → Prop} {A : Nat → Int → Int} {D : Nat → Nat} {SP CT : List Int} {d : Nat} {gs : List ct_Fr} {y : Int} {W : List ct_KV} {f g : Int → Int} {m : Nat} {n : Int} (hz : ct_Z A D SP CT d gs y W) (hl1 : ct_lo gs ≤ (ct_nd A y).1.length) (hl2 : (ct_nd A y).1.length ≤ 4) (hW : W.length ≤ 25) (hfr : ∀ fr, fr ∈ gs → A 5 fr.1 = 1) (hw : ct_Wy f g gs) (hfy : f (gs.length : Int) = y) (hn : (gs.length : Int) < n) (hn8 : n ≤ 8)
    (hp : ∀ B y', ct_Z B D SP CT d gs y' W → ct_nd B y' = ct_nd A y → B 5 y' = 1 → (∀ fr, fr ∈ gs → B 5 fr.1 = 1) → (∀ q, q ∈ ct_pg (ct_nd A) d y → q ≠ y → ct_nd B q = ct_nd A q) → ct_Ot SP A B → wX_copyWay_2 post m (ct_i ((gs.length : Int) + 1)) (ct_i n) (ct_c ((ct_wy B n (ct_up f gs.length y') g) 1)) (ct_c ((ct_wy B n (ct_up f gs.length y') g) 2)) (ct_a ((ct_wy B n (ct_up f gs.length y') g) 3)) (ct_c ((ct_wy B n (ct_up f gs.length y') g) 4)) (ct_a ((ct_wy B n (ct_up f gs.length y') g) 5)) (ct_a ((ct_wy B n (ct_up f gs.length y') g) 6)) (ct_c ((ct_wy B n (ct_up f gs.length y') g) 7)) (ct_c ((ct_wy B n (ct_up f gs.length y') g) 8)) (ct_a ((ct_wy B n (ct_up f gs.length y') g) 9)) (ct_a ((ct_wy B n (ct_up f gs.length y') g) 10)) (ct_c ((ct_wy B n (ct_up f gs.length y') g) 11)) (ct_c ((ct_wy B n (ct_up f gs.length y') g) 12)) (ct_a ((ct_wy B n (ct_up f gs.length y') g) 13)) (ct_c ((ct_wy B n (ct_up f gs.length y') g) 14)) (ct_c ((ct_wy B n (ct_up f gs.length y') g) 15)) (ct_c ((ct_wy B n (ct_up f gs.length y') g) 16))) :
    wX_copyWay_2 post (m + 1) (ct_i (gs.length : Int)) (ct_i n) (ct_c ((ct_wy A n f g) 1)) (ct_c ((ct_wy A n f g) 2)) (ct_a ((ct_wy A n f g) 3)) (ct_c ((ct_wy A n f g) 4)) (ct_a ((ct_wy A n f g) 5)) (ct_a ((ct_wy A n f g) 6)) (ct_c ((ct_wy A n f g) 7)) (ct_c ((ct_wy A n f g) 8)) (ct_a ((ct_wy A n f g) 9)) (ct_a ((ct_wy A n f g) 10)) (ct_c ((ct_wy A n f g) 11)) (ct_c ((ct_wy A n f g) 12)) (ct_a ((ct_wy A n f g) 13)) (ct_c ((ct_wy A n f g) 14)) (ct_c ((ct_wy A n f g) 15)) (ct_c ((ct_wy A n f g) 16)) := by
  have hlo := ct_lo_1 gs
  have hyW : y ∈ ct_pg (ct_nd A) d y ++ ct_CP (ct_nd A) d gs := List.mem_append.mpr (Or.inl (ct_pg_self _ _ _))
  have hyr := hz.2.2.2.1 y hyW
  have e1 : ct_i (gs.length : Int) + 1 = ct_i ((gs.length : Int) + 1) := ct_add _ 1
  unfold wX_copyWay_2
  refine br_f ?_ ⟨ct_in (by omega) (by omega) (by decide), ?_⟩
  · rw [ct_le (by omega) (by omega) (by omega) (by omega)]; omega
  show wpX_freshCopy _ _ (ct_c f (ct_i (gs.length : Int)).toNatClampNeg)
  rw [ct_rc (by omega) (by omega), hfy, ct_bI (by omega) (by omega)]
  have hst : ∀ (B : Nat → Int → Int) (y' : Int), 0 ≤ y' → y' < 100 → (gs = [] → wX_copyWay_2 post m (ct_i ((gs.length : Int) + 1)) (ct_i n) (ct_c ((ct_wy (ct_st B 11 (ct_up (B 11) 3 y')) n (ct_up f gs.length y') g) 1)) (ct_c ((ct_wy (ct_st B 11 (ct_up (B 11) 3 y')) n (ct_up f gs.length y') g) 2)) (ct_a ((ct_wy (ct_st B 11 (ct_up (B 11) 3 y')) n (ct_up f gs.length y') g) 3)) (ct_c ((ct_wy (ct_st B 11 (ct_up (B 11) 3 y')) n (ct_up f gs.length y') g) 4)) (ct_a ((ct_wy (ct_st B 11 (ct_up (B 11) 3 y')) n (ct_up f gs.length y') g) 5)) (ct_a ((ct_wy (ct_st B 11 (ct_up (B 11) 3 y')) n (ct_up f gs.length y') g) 6)) (ct_c ((ct_wy (ct_st B 11 (ct_up (B 11) 3 y')) n (ct_up f gs.length y') g) 7)) (ct_c ((ct_wy (ct_st B 11 (ct_up (B 11) 3 y')) n (ct_up f gs.length y') g) 8)) (ct_a ((ct_wy (ct_st B 11 (ct_up (B 11) 3 y')) n (ct_up f gs.length y') g) 9)) (ct_a ((ct_wy (ct_st B 11 (ct_up (B 11) 3 y')) n (ct_up f gs.length y') g) 10)) (ct_c ((ct_wy (ct_st B 11 (ct_up (B 11) 3 y')) n (ct_up f gs.length y') g) 11)) (ct_c ((ct_wy (ct_st B 11 (ct_up (B 11) 3 y')) n (ct_up f gs.length y') g) 12)) (ct_a ((ct_wy (ct_st B 11 (ct_up (B 11) 3 y')) n (ct_up f gs.length y') g) 13)) (ct_c ((ct_wy (ct_st B 11 (ct_up (B 11) 3 y')) n (ct_up f gs.length y') g) 14)) (ct_c ((ct_wy (ct_st B 11 (ct_up (B 11) 3 y')) n (ct_up f gs.length y') g) 15)) (ct_c ((ct_wy (ct_st B 11 (ct_up (B 11) 3 y')) n (ct_up f gs.length y') g) 16))) → (∀ p ka ca kb cb gs', gs = (p, (ka, ca), (kb, cb)) :: gs' → 0 ≤ p ∧ p < 100 ∧ ka.length ≤ 4 ∧ f ((gs.length : Int) - 1) = p ∧ g ((gs.length : Int) - 1) = (ka.length : Int) ∧ wX_copyWay_2 post m (ct_i ((gs.length : Int) + 1)) (ct_i n) (ct_c ((ct_wy (ct_chd B p ka.length y') n (ct_up f gs.length y') g) 1)) (ct_c ((ct_wy (ct_chd B p ka.length y') n (ct_up f gs.length y') g) 2)) (ct_a ((ct_wy (ct_chd B p ka.length y') n (ct_up f gs.length y') g) 3)) (ct_c ((ct_wy (ct_chd B p ka.length y') n (ct_up f gs.length y') g) 4)) (ct_a ((ct_wy (ct_chd B p ka.length y') n (ct_up f gs.length y') g) 5)) (ct_a ((ct_wy (ct_chd B p ka.length y') n (ct_up f gs.length y') g) 6)) (ct_c ((ct_wy (ct_chd B p ka.length y') n (ct_up f gs.length y') g) 7)) (ct_c ((ct_wy (ct_chd B p ka.length y') n (ct_up f gs.length y') g) 8)) (ct_a ((ct_wy (ct_chd B p ka.length y') n (ct_up f gs.length y') g) 9)) (ct_a ((ct_wy (ct_chd B p ka.length y') n (ct_up f gs.length y') g) 10)) (ct_c ((ct_wy (ct_chd B p ka.length y') n (ct_up f gs.length y') g) 11)) (ct_c ((ct_wy (ct_chd B p ka.length y') n (ct_up f gs.length y') g) 12)) (ct_a ((ct_wy (ct_chd B p ka.length y') n (ct_up f gs.length y') g) 13)) (ct_c ((ct_wy (ct_chd B p ka.length y') n (ct_up f gs.length y') g) 14)) (ct_c ((ct_wy (ct_chd B p ka.length y') n (ct_up f gs.length y') g) 15)) (ct_c ((ct_wy (ct_chd B p ka.length y') n (ct_up f gs.length y') g) 16))) → ct_cwP (fun a4 a11 a14 x1 => wX_copyWay_2 post m x1 (ct_i n) (ct_c (B 1)) (ct_c (B 2)) (ct_a (B 3)) a4 (ct_a (B 5)) (ct_a (B 6)) (ct_c (B 7)) (ct_c (B 8)) (ct_a (B 9)) (ct_a (B 10)) a11 (ct_c (B 12)) (ct_a (B 13)) a14 (ct_c g) (ct_c (B 16))) (B 4) (B 11) f g gs.length y' := by
    intro B y' hy0 hy1 h0 h1
    cases gs with
    | nil => exact ct_cw_st (by simp) (by simp) (fun _ => h0 rfl) (fun h => absurd rfl h)
    | cons fr gs' =>
      obtain ⟨p, ⟨ka, ca⟩, kb, cb⟩ := fr
      obtain ⟨k1, k2, k3, k4, k5, k6⟩ := h1 p ka ca kb cb gs' rfl
      exact ct_cw_st (by omega) (by omega) (fun h => by simp at h; omega) (fun _ => ⟨by omega, by omega, by omega, by omega, by rw [k4, k5]; exact k6⟩)
  have hfs : ∀ p ka ca kb cb gs', gs = (p, (ka, ca), (kb, cb)) :: gs' → 0 ≤ p ∧ p < 100 ∧ ka.length ≤ 4 ∧ f ((gs.length : Int) - 1) = p ∧ g ((gs.length : Int) - 1) = (ka.length : Int) := by
    intro p ka ca kb cb gs' e
    subst e
    have hp := hz.2.2.2.1 p (List.mem_append.mpr (Or.inr (by simp [ct_CP])))
    have hcx := hz.1
    simp only [ct_Cx] at hcx
    have hl : (((((p, (ka, ca), (kb, cb)) : ct_Fr) :: gs').length : Int) - 1) = gs'.length := by simp only [List.length_cons]; omega
    rw [hl]
    exact ⟨hp.1, hp.2.1, by omega, hw.1, hw.2.1⟩
  refine ct_Z_fc (A := ct_wy A n f g) (x := y) hz (by show 1 ≤ (ct_nd A y).1.length; omega) (by show (ct_nd A y).1.length ≤ 5; omega) hW hyW (fun hf1 => ?_) (fun hf0 _ c f' g' hc0 hc1 hcS hcW hc5 hcy => ?_)
  · have hf1' : A 5 y = 1 := hf1
    refine hst A y hyr.1 hyr.2.1 (fun e => ?_) (fun p ka ca kb cb gs' e => ?_)
    · have hr : A 11 3 = y := by
        have := hz.1
        rw [e] at this
        simp only [ct_Cx] at this
        exact this.symm
      have := hp A y hz rfl hf1' hfr (fun _ _ _ => rfl) (ct_Ot_r SP A)
      have e11 : ct_up (A 11) 3 y = A 11 := by rw [← hr]; exact ct_up_self
      rw [e11]
      exact this
    · obtain ⟨k1, k2, k3, k4, k5⟩ := hfs p ka ca kb cb gs' e
      refine ⟨k1, k2, k3, k4, k5, ?_⟩
      have := hp A y hz rfl hf1' hfr (fun _ _ _ => rfl) (ct_Ot_r SP A)
      have hch : A 4 (6 * p + ka.length) = y := by
        have hcx := hz.1
        rw [e] at hcx
        simp only [ct_Cx] at hcx
        rw [hcx.2.1]
        exact ct_nd_ch (by rw [hcx.1])
      have e4 : ct_up (A 4) (6 * p + ka.length) y = A 4 := by rw [← hch]; exact ct_up_self
      unfold ct_chd
      rw [e4]
      exact this
  · have hf0' : A 5 y = 0 := hf0
    have hcS' : c ∉ SP := hcS
    refine hst (ct_fc A y c g' f') c hc0 hc1 (fun e => ?_) (fun p ka ca kb cb gs' e => ?_)
    · subst e
      have := ct_Z_cp0 (g := g') (f := f') hz hf0' hc0 hc1 hcS hcW
      refine hp _ c this.1 this.2.1 ct_us (by simp) (fun q hq hqy => ?_) ⟨⟨rfl, rfl, rfl, rfl, rfl, rfl, fun k hk => ct_un hk⟩, this.2.2⟩
      have hqc : q ≠ c := fun e => hcW (e ▸ List.mem_append.mpr (Or.inl hq))
      exact ct_nd_fc (A := A) (x := y) (g := g') (f := f') hqc
    · obtain ⟨k1, k2, k3, k4, k5⟩ := hfs p ka ca kb cb gs' e
      refine ⟨k1, k2, k3, k4, k5, ?_⟩
      subst e
      have hpf := hfr _ (List.mem_cons_self)
      have := ct_Z_cp (g := g') (f := f') hz hpf hf0' hc0 hc1 hcS hcW
      have hnd := List.nodup_append.mp hz.2.2.1
      refine hp _ c this.1 this.2.1 ct_us (fun fr hfr' => ?_) (fun q hq hqy => ?_) ⟨⟨rfl, rfl, rfl, rfl, rfl, rfl, fun k hk => rfl⟩, this.2.2⟩
      · by_cases e : fr.1 = c
        · rw [e]; exact ct_us
        · exact Eq.trans (ct_un e) (hfr fr hfr')
      · have hqc : q ≠ c := fun e => hcW (e ▸ List.mem_append.mpr (Or.inl hq))
        have hqp : q ≠ p := fun e => hnd.2.2 q hq q (by rw [e]; simp [ct_CP]) rfl
        rw [← ct_nd_fc (A := A) (x := y) (g := g') (f := f') hqc]
        exact ct_nd_cg rfl (fun j _ _ => ⟨rfl, rfl⟩) (fun j _ _ => ct_un (by omega))
theorem ct_copyWay_2 {post : St1 → Prop} {D : Nat → Nat} {SP CT : List Int} {W K : List ct_KV} {g : Int → Int} {n : Int} (hW : W.length ≤ 25) (hn8 : n ≤ 8) (A0 : Nat → Int → Int)
    {N : Nat} {d0 : Nat} {kys : List (List ct_KV × List ct_KV)}
    (hp : ∀ A' f' gs' x', ct_Z A' D SP CT d0 gs' x' W → ct_lo gs' ≤ (ct_nd A' x').1.length → (ct_nd A' x').1.length ≤ 4 → (∀ fr, fr ∈ gs' → A' 5 fr.1 = 1) → A' 5 x' = 1 → ct_Wy f' g gs' → f' (N : Int) = x' → gs'.length = N → gs'.map ct_ky = kys → (ct_nd A' x').1 = K → ct_Ot SP A0 A' → post (ct_lf (ct_wy A' n f' g))) :
    ∀ (ts : List (List ct_KV × List ct_KV)) (gs : List ct_Fr) (y : Int) (A : Nat → Int → Int) (f : Int → Int), ct_Z A D SP CT (d0 + ts.length) gs y W → ct_lo gs ≤ (ct_nd A y).1.length → (ct_nd A y).1.length ≤ 4 → (∀ fr, fr ∈ gs → A 5 fr.1 = 1) → ct_Wy f g gs → ct_Dn (ct_nd A) f g K gs.length ts y → ct_Ot SP A0 A → gs.length + ts.length = N → n = N + 1 → ts.reverse ++ gs.map ct_ky = kys →
    wX_copyWay_2 post (ts.length + 2) (ct_i (gs.length : Int)) (ct_i n) (ct_c ((ct_wy A n f g) 1)) (ct_c ((ct_wy A n f g) 2)) (ct_a ((ct_wy A n f g) 3)) (ct_c ((ct_wy A n f g) 4)) (ct_a ((ct_wy A n f g) 5)) (ct_a ((ct_wy A n f g) 6)) (ct_c ((ct_wy A n f g) 7)) (ct_c ((ct_wy A n f g) 8)) (ct_a ((ct_wy A n f g) 9)) (ct_a ((ct_wy A n f g) 10)) (ct_c ((ct_wy A n f g) 11)) (ct_c ((ct_wy A n f g) 12)) (ct_a ((ct_wy A n f g) 13)) (ct_c ((ct_wy A n f g) 14)) (ct_c ((ct_wy A n f g) 15)) (ct_c ((ct_wy A n f g) 16)) := by
  intro ts
  induction ts with
  | nil =>
    intro gs y A f hz hl1 hl2 hfr hw hd hO hN hn hk
    simp only [List.length_nil, Nat.add_zero] at hN hz
    refine ct_copyWay_it (m := 1) hz hl1 hl2 hW hfr hw hd.1 (by omega) hn8 (fun B y' hzB hnB h5B hfB hqB hOB => ?_)
    unfold wX_copyWay_2
    refine br_t ?_ ?_
    · rw [ct_le (by omega) (by omega) (by omega) (by omega)]; omega
    · rw [← hnB] at hl1 hl2
      exact hp B (ct_up f gs.length y') gs y' hzB hl1 hl2 hfB h5B (ct_Wy_f gs _ (by omega) hw) (by rw [← hN]; exact ct_us) hN (by simpa using hk) (by rw [hnB]; exact hd.2) (ct_Ot_t hO hOB)
  | cons t ts ih =>
    intro gs y A f hz hl1 hl2 hfr hw hd hO hN hn hk
    simp only [List.length_cons] at hN hz
    obtain ⟨h1, h2, h3, ca, c, cb, h4, h5, h6⟩ := hd
    refine ct_copyWay_it (m := ts.length + 2) hz hl1 hl2 hW hfr hw h1 (by omega) hn8 (fun B y' hzB hnB h5B hfB hqB hOB => ?_)
    rw [← hnB] at hl1 hl2
    obtain ⟨ca', c', cb', k1, k2, k3, k4, k5, k6, k7⟩ := ct_Z_dn (d := d0 + ts.length) (ka := t.1) (kb := t.2) hzB hl1 hl2 (by rw [hnB]; exact h3)
    have hcc : c' = c := by
      have e : ca' ++ c' :: cb' = ca ++ c :: cb := by
        have := congrArg Prod.snd k1
        rw [hnB, h4] at this
        exact this.symm
      exact (List.cons.inj (List.append_inj e (by omega)).2).1
    subst hcc
    have hnod := (List.nodup_append.mp hz.2.2.1).1
    have hch : ∀ q, q ∈ ct_pg (ct_nd A) (d0 + ts.length) c' → ct_nd B q = ct_nd A q := by
      intro q hq
      have hm : q ∈ ((ct_nd A y).2.map (ct_pg (ct_nd A) (d0 + ts.length))).flatten := by
        simp only [List.mem_flatten, List.mem_map]
        exact ⟨_, ⟨c', by rw [h4]; simp, rfl⟩, hq⟩
      have hn2 : (ct_pg (ct_nd A) (d0 + ts.length + 1) y).Nodup := hnod
      simp only [ct_pg, List.nodup_cons] at hn2
      refine hqB q ?_ (fun e => hn2.1 (e ▸ hm))
      show q ∈ ct_pg (ct_nd A) (d0 + ts.length + 1) y
      simp only [ct_pg, List.mem_cons]
      exact Or.inr hm
    have := ih ((y', (t.1, ca'), (t.2, cb')) :: gs) c' B (ct_up f gs.length y') k7 (by simpa [ct_lo] using k5) k6 (by
      intro fr hfr'
      rcases List.mem_cons.mp hfr' with e | e
      · rw [e]; exact h5B
      · exact hfB fr e) ⟨ct_us, h2, ct_Wy_f gs _ (by omega) hw⟩ (ct_Dn_cg ts _ _ c' (by omega) hch (fun j hj => ct_un (by simp at hj; omega)) h6) (ct_Ot_t hO hOB) (by simp only [List.length_cons]; omega) hn (by
        rw [← hk]
        simp [ct_ky])
    simp only [List.length_cons] at this
    rw [show ((gs.length + 1 : Nat) : Int) = (gs.length : Int) + 1 by omega] at this
    exact this
end
section
/-! ===== 14: copyWay as a whole; nodes joined and split, without the program ===== -/
theorem ct_copyWay {post : St1 → Prop} {A : Nat → Int → Int} {D : Nat → Nat} {SP CT : List Int} {Dr d : Nat} {r x : Int} {fs : List ct_Fr} {W ka kb : List ct_KV} {f g : Int → Int} (hz : ct_Z A D SP CT Dr [] r W) (hl1 : 1 ≤ (ct_nd A r).1.length) (hl2 : (ct_nd A r).1.length ≤ 4) (hW : W.length ≤ 25) (hAt : ct_At A Dr r fs d x ka kb f g) (h8 : fs.length ≤ 7)
    (hp : ∀ A' f' gs' x', ct_Z A' D SP CT d gs' x' W → ct_lo gs' ≤ (ct_nd A' x').1.length → (ct_nd A' x').1.length ≤ 4 → (∀ fr, fr ∈ gs' → A' 5 fr.1 = 1) → A' 5 x' = 1 → ct_Wy f' g gs' → f' (fs.length : Int) = x' → gs'.length = fs.length → gs'.map ct_ky = fs.map ct_ky → (ct_nd A' x').1 = ka ++ kb → ct_Ot SP A A' → post (ct_lf (ct_wy A' ((fs.length : Int) + 1) f' g))) :
    wpX_copyWay post (ct_lf (ct_wy A ((fs.length : Int) + 1) f g)) := by
  obtain ⟨g1, g2, g3, g4, g5, g6, g7, g8, g9⟩ := hAt
  have hDn : ct_Dn (ct_nd A) f g (ka ++ kb) 0 ((fs.map ct_ky).reverse) r := by
    have := ct_Dn_of (K := ka ++ kb) fs d x r [] g2 g7 ⟨g8, g6⟩
    simpa using this
  have hr : A 11 3 = r := by
    have := hz.1
    simp only [ct_Cx] at this
    exact this.symm
  unfold wpX_copyWay
  refine ⟨((fs.map ct_ky).reverse).length + 2, ?_⟩
  have := ct_copyWay_2 (post := post) (D := D) (SP := SP) (CT := CT) (W := W) (K := ka ++ kb) (g := g) (n := (fs.length : Int) + 1) hW (by omega) A (N := fs.length) (d0 := d) (kys := fs.map ct_ky) hp ((fs.map ct_ky).reverse) [] r A f (by simp only [List.length_reverse, List.length_map]; rw [g1]; exact hz) (by simpa [ct_lo] using hl1) hl2 (by simp) trivial hDn (ct_Ot_r SP A) (by simp) rfl (by simp)
  exact this
/-- a node of depth d: its shape, content, pages below -/
def ct_no (H : ct_Hp) : Nat → List ct_KV × List Int → Prop
  | 0, n => n.2 = []
  | d + 1, n => n.2.length = n.1.length + 1 ∧ ∀ c, c ∈ n.2 → ct_wf H d c
def ct_nf (H : ct_Hp) : Nat → List ct_KV × List Int → List ct_KV
  | 0, n => n.1
  | d + 1, n => ct_wv n.1 (n.2.map (ct_fl H d))
def ct_pn (H : ct_Hp) : Nat → List Int → List Int
  | 0, _ => []
  | d + 1, cs => (cs.map (ct_pg H d)).flatten
theorem ct_no_sh {H : ct_Hp} {d : Nat} {x : Int} : ct_sh H d x ↔ ct_no H d (H x) := by cases d <;> rfl
theorem ct_nf_fl {H : ct_Hp} {d : Nat} {x : Int} : ct_fl H d x = ct_nf H d (H x) := by cases d <;> rfl
theorem ct_pn_pg {H : ct_Hp} {d : Nat} {x : Int} : ct_pg H d x = x :: ct_pn H d (H x).2 := by cases d <;> rfl
theorem ct_pn_app {H : ct_Hp} {d : Nat} {a b : List Int} : ct_pn H d (a ++ b) = ct_pn H d a ++ ct_pn H d b := by cases d <;> simp [ct_pn]
theorem ct_pn_nil {H : ct_Hp} {d : Nat} : ct_pn H d [] = [] := by cases d <;> simp [ct_pn]
theorem ct_pn_cons {H : ct_Hp} {d : Nat} {a : Int} {b : List Int} : ct_pn H (d + 1) (a :: b) = ct_pg H d a ++ ct_pn H (d + 1) b := by simp [ct_pn]
theorem ct_no_cg {H H' : ct_Hp} {d : Nat} {n : List ct_KV × List Int} (h : ∀ q, q ∈ ct_pn H d n.2 → H' q = H q) : (ct_no H d n → ct_no H' d n) ∧ ct_nf H' d n = ct_nf H d n ∧ ct_pn H' d n.2 = ct_pn H d n.2 := by
  cases d with
  | zero => exact ⟨fun h => h, rfl, rfl⟩
  | succ d =>
    have hc : ∀ c, c ∈ n.2 → ∀ q, q ∈ ct_pg H d c → H' q = H q := by
      intro c hc q hq
      refine h q ?_
      simp only [ct_pn, List.mem_flatten, List.mem_map]
      exact ⟨_, ⟨c, hc, rfl⟩, hq⟩
    refine ⟨?_, ?_, ?_⟩
    · simp only [ct_no]
      exact fun hn => ⟨hn.1, fun c hm => ct_wf_cg (hc c hm) (hn.2 c hm)⟩
    · simp only [ct_nf]
      rw [List.map_congr_left (fun c hm => (ct_cg d c (hc c hm)).2.1)]
    · simp only [ct_pn]
      rw [List.map_congr_left (fun c hm => (ct_cg d c (hc c hm)).1)]
/-- two nodes and the pair between them are one node -/
theorem ct_no_join {H : ct_Hp} {d : Nat} {k1 k2 : List ct_KV} {m : ct_KV} {c1 c2 : List Int} (h1 : ct_no H d (k1, c1)) (h2 : ct_no H d (k2, c2)) : ct_no H d (k1 ++ m :: k2, c1 ++ c2) ∧ ct_nf H d (k1 ++ m :: k2, c1 ++ c2) = ct_nf H d (k1, c1) ++ m :: ct_nf H d (k2, c2) := by
  cases d with
  | zero =>
    simp only [ct_no] at *
    exact ⟨by rw [h1, h2]; rfl, rfl⟩
  | succ d =>
    simp only [ct_no] at *
    refine ⟨⟨by simp; omega, fun c hc => ?_⟩, ?_⟩
    · rcases List.mem_append.mp hc with h | h
      · exact h1.2 c h
      · exact h2.2 c h
    · simp only [ct_nf, List.map_append]
      exact ct_wv_spl (by simpa using h1.1) (by simpa using h2.1)
theorem ct_no_spl {H : ct_Hp} {d : Nat} {k1 k2 : List ct_KV} {m : ct_KV} {cs : List Int} (h : ct_no H d (k1 ++ m :: k2, cs)) : ∃ c1 c2, cs = c1 ++ c2 ∧ ct_no H d (k1, c1) ∧ ct_no H d (k2, c2) ∧ (d = 0 → c1 = [] ∧ c2 = []) ∧ (0 < d → c1.length = k1.length + 1 ∧ c2.length = k2.length + 1) := by
  cases d with
  | zero =>
    simp only [ct_no] at h
    exact ⟨[], [], by rw [h]; rfl, rfl, rfl, fun _ => ⟨rfl, rfl⟩, fun h => by omega⟩
  | succ d =>
    simp only [ct_no] at h
    have hl : cs.length = (k1.length + 1) + (k2.length + 1) := by rw [h.1]; simp; omega
    refine ⟨cs.take (k1.length + 1), cs.drop (k1.length + 1), (List.take_append_drop _ _).symm, ⟨?_, fun c hc => h.2 c (List.mem_of_mem_take hc)⟩, ⟨?_, fun c hc => h.2 c (List.mem_of_mem_drop hc)⟩, fun h => by omega, fun _ => ⟨?_, ?_⟩⟩
    · simp; omega
    · simp; omega
    · simp; omega
    · simp; omega
/-- the content of p with two neighbours among its children -/
theorem ct_fl_two {H : ct_Hp} {d : Nat} {p x y : Int} {k1 k2 : List ct_KV} {s : ct_KV} {c1 c2 : List Int} (h : H p = (k1 ++ s :: k2, c1 ++ x :: y :: c2)) (h1 : k1.length = c1.length) : ct_fl H (d + 1) p = ct_zl k1 (c1.map (ct_fl H d)) ++ ((ct_fl H d x ++ s :: ct_fl H d y) ++ ct_zr k2 (c2.map (ct_fl H d))) := by
  rw [ct_fl_cut (d := d) h h1]
  simp [ct_zr]
/-- Z without the shape of x -/
def ct_Y (A : Nat → Int → Int) (D : Nat → Nat) (SP CT : List Int) (d : Nat) (fs : List ct_Fr) (x : Int) (W : List ct_KV) : Prop :=
  ct_Cx (ct_nd A) d fs x (A 11 3) ∧ (ct_pg (ct_nd A) d x ++ ct_CP (ct_nd A) d fs).Nodup ∧
  (∀ q, q ∈ ct_pg (ct_nd A) d x ++ ct_CP (ct_nd A) d fs → 0 ≤ q ∧ q < 100 ∧ -128 ≤ A 4 (6 * q) ∧ (A 5 q = 1 ∨ q ∈ CT)) ∧
  (∀ q, 0 ≤ q → q < 100 → A 5 q ≠ 0 → q ∈ ct_pg (ct_nd A) d x ++ ct_CP (ct_nd A) d fs) ∧
  ct_CL (ct_nd A) d fs ++ (ct_fl (ct_nd A) d x ++ ct_CR (ct_nd A) d fs) = W ∧ ct_Sx A D SP CT
theorem ct_Y_Z {A : Nat → Int → Int} {D : Nat → Nat} {SP CT : List Int} {d : Nat} {fs : List ct_Fr} {x : Int} {W : List ct_KV} (h : ct_Y A D SP CT d fs x W) (hs : ct_sh (ct_nd A) d x) (hk : A 1 x = ((ct_nd A x).1.length : Int)) : ct_Z A D SP CT d fs x W :=
  ⟨h.1, hs, h.2.1, h.2.2.1, h.2.2.2.1, h.2.2.2.2.1, hk, h.2.2.2.2.2⟩
theorem ct_Z_Y {A : Nat → Int → Int} {D : Nat → Nat} {SP CT : List Int} {d : Nat} {fs : List ct_Fr} {x : Int} {W : List ct_KV} (h : ct_Z A D SP CT d fs x W) : ct_Y A D SP CT d fs x W :=
  ⟨h.1, h.2.2.1, h.2.2.2.1, h.2.2.2.2.1, h.2.2.2.2.2.1, h.2.2.2.2.2.2.2⟩
theorem ct_Y_up {A : Nat → Int → Int} {D : Nat → Nat} {SP CT : List Int} {d : Nat} {fs : List ct_Fr} {x p : Int} {W : List ct_KV} {ka kb : List ct_KV} {ca cb : List Int} (h : ct_Y A D SP CT d ((p, (ka, ca), (kb, cb)) :: fs) x W) :
    ct_Y A D SP CT (d + 1) fs p W ∧ ct_nd A p = (ka ++ kb, ca ++ x :: cb) ∧ ka.length = ca.length ∧ kb.length = cb.length ∧ ct_lo fs ≤ ka.length + kb.length ∧ ka.length + kb.length ≤ 4 ∧ (∀ c, c ∈ ca ++ cb → ct_wf (ct_nd A) d c) := by
  obtain ⟨z1, z3, z4, z5, z6, z8⟩ := h
  simp only [ct_Cx] at z1
  obtain ⟨h1, h2, h3, h4, h5, h6, h7⟩ := z1
  have hfl := ct_fl_cut (d := d) h1 h2
  have hpm := ct_up_pg (d := d) h1 (ct_CP (ct_nd A) (d + 1) fs)
  refine ⟨⟨h7, hpm.nodup_iff.mpr z3, fun q hq => z4 q (hpm.mem_iff.mp hq), fun q g0 g1 g2 => hpm.mem_iff.mpr (z5 q g0 g1 g2), ?_, z8⟩, h1, h2, h3, h4, h5, h6⟩
  rw [hfl, ← z6]
  simp [ct_CL, ct_CR]
/-- another content of the hole, the same page -/
theorem ct_Y_rep {A B : Nat → Int → Int} {D : Nat → Nat} {SP CT : List Int} {d : Nat} {fs : List ct_Fr} {x : Int} {W : List ct_KV} (h : ct_Y A D SP CT d fs x W) (hq : ∀ q, q ∈ ct_CP (ct_nd A) d fs → ct_nd B q = ct_nd A q ∧ B 4 (6 * q) = A 4 (6 * q) ∧ B 5 q = A 5 q) (h11 : B 11 3 = A 11 3) (hN : (ct_pg (ct_nd B) d x ++ ct_CP (ct_nd A) d fs).Nodup) (hO : ∀ q, q ∈ ct_pg (ct_nd B) d x → 0 ≤ q ∧ q < 100 ∧ -128 ≤ B 4 (6 * q) ∧ (B 5 q = 1 ∨ q ∈ CT)) (hF : ∀ q, 0 ≤ q → q < 100 → B 5 q ≠ 0 → q ∈ ct_pg (ct_nd B) d x ++ ct_CP (ct_nd A) d fs) (hS : ct_Sx B D SP CT) :
    ct_Y B D SP CT d fs x (ct_CL (ct_nd A) d fs ++ (ct_fl (ct_nd B) d x ++ ct_CR (ct_nd A) d fs)) := by
  obtain ⟨z1, z3, z4, z5, z6, z8⟩ := h
  obtain ⟨i1, i2, i3, i4⟩ := ct_Cx_cg (H' := ct_nd B) fs d x (A 11 3) (fun q hm => (hq q hm).1)
  refine ⟨by rw [h11]; exact i1 z1, by rw [i2]; exact hN, fun q hm => ?_, fun q g0 g1 g2 => by rw [i2]; exact hF q g0 g1 g2, by rw [i3, i4], hS⟩
  rw [i2] at hm
  rcases List.mem_append.mp hm with hm | hm
  · exact hO q hm
  · have a := z4 q (List.mem_append.mpr (Or.inr hm))
    have b := hq q hm
    rw [b.2.1, b.2.2]
    exact a
/-- at the end: the tree at the root -/
theorem ct_Z_fin {A : Nat → Int → Int} {D : Nat → Nat} {SP CT : List Int} {d : Nat} {fs : List ct_Fr} {x : Int} {W : List ct_KV} (h : ct_Z A D SP CT d fs x W) (hl1 : ct_lo fs ≤ (ct_nd A x).1.length) (hl2 : (ct_nd A x).1.length ≤ 4) :
    ct_T A (d + fs.length) (A 11 3) W ∧ (∀ q, q ∈ ct_pg (ct_nd A) (d + fs.length) (A 11 3) → A 5 q = 1 ∨ q ∈ CT) ∧ (∀ q, 0 ≤ q → q < 100 → A 5 q ≠ 0 → q ∈ ct_pg (ct_nd A) (d + fs.length) (A 11 3)) ∧ ct_Sx A D SP CT := by
  obtain ⟨z1, z2, z3, z4, z5, z6, z7, z8⟩ := h
  have hpm := ct_Cx_pg fs d x _ z1
  have hsh := ct_Cx_sh fs d x _ z1 z2 hl1 hl2
  have hfl := ct_Cx_fl fs d x _ z1
  refine ⟨⟨hsh.1, hsh.2.1, hsh.2.2, fun q hq => ?_, hpm.nodup_iff.mpr z3, fun q hq => ?_, by rw [hfl]; exact z6⟩, fun q hq => ?_, fun q g0 g1 g2 => hpm.mem_iff.mpr (z5 q g0 g1 g2), z8⟩
  · have := z4 q (hpm.mem_iff.mp hq); exact ⟨this.1, this.2.1⟩
  · exact (z4 q (hpm.mem_iff.mp hq)).2.2.1
  · exact (z4 q (hpm.mem_iff.mp hq)).2.2.2
end
section
/-! ===== 15: a new page in any state of a change; what the moves do to lists ===== -/
theorem ct_newP {post : Int32 → St1 → Prop} {A : Nat → Int → Int} {D : Nat → Nat} {SP CT WP : List Int} {dw : Nat} (hS : ct_Sx A D SP CT) (hrt : ct_rt A dw (A 11 3)) (hWP : ∀ q, 0 ≤ A 11 3 → q ∈ ct_pg (ct_nd A) dw (A 11 3) → q ∈ WP) (hF : ∀ q, 0 ≤ q → q < 100 → A 5 q ≠ 0 → q ∈ WP) (hO : ∀ q, q ∈ WP → A 5 q = 1 ∨ q ∈ CT) (hlen : WP.length ≤ 39)
    (hp : ∀ c f g, 0 ≤ c → c < 100 → c ∉ SP → c ∉ WP → A 5 c = 0 → post (ct_i c) (ct_lf (ct_new A c g f))) : wpX_newPage post (ct_lf A) := by
  obtain ⟨s1, s2, s3, s4, s5⟩ := hS.1
  have hRPs : ∀ D' : Nat → Nat, D' 0 = D 0 → D' 1 = D 1 → D' 2 = D 2 → D' 3 = dw → D' 4 = D 4 → D' 5 = D 5 → ∀ q, ct_us6 A D' q ↔ (q ∈ SP ∨ (0 ≤ A 11 3 ∧ q ∈ ct_pg (ct_nd A) dw (A 11 3))) := by
    intro D' e0 e1 e2 e3 e4 e5 q
    have m0 : ct_MP A D' 0 = ct_MP A D 0 := by unfold ct_MP; rw [show 4 + 0 = 4 from rfl, e4]
    have m1 : ct_MP A D' 1 = ct_MP A D 1 := by unfold ct_MP; rw [show 4 + 1 = 5 from rfl, e5]
    have r0 : ct_RP A D' 0 = ct_RP A D 0 := by unfold ct_RP; rw [e0]
    have r1 : ct_RP A D' 1 = ct_RP A D 1 := by unfold ct_RP; rw [e1]
    have r2 : ct_RP A D' 2 = ct_RP A D 2 := by unfold ct_RP; rw [e2]
    have r3 : q ∈ ct_RP A D' 3 ↔ (0 ≤ A 11 3 ∧ q ∈ ct_pg (ct_nd A) dw (A 11 3)) := by
      unfold ct_RP
      rw [e3]
      show q ∈ (if A 11 3 < 0 then [] else ct_pg (ct_nd A) dw (A 11 3)) ↔ _
      by_cases e : A 11 3 < 0
      · rw [if_pos e]
        constructor
        · intro h; simp at h
        · intro h; omega
      · rw [if_neg e]
        exact ⟨fun h => ⟨by omega, h⟩, fun h => h.2⟩
    rw [s3 q]
    unfold ct_us6
    simp only [ct_RPs, ct_MPs, r0, r1, r2, m0, m1, List.mem_append, List.not_mem_nil, or_false, r3]
    constructor
    · intro h
      rcases h with (h | h | h | h) | h
      · exact Or.inl (Or.inl (Or.inl h))
      · exact Or.inl (Or.inl (Or.inr (Or.inl h)))
      · exact Or.inl (Or.inl (Or.inr (Or.inr h)))
      · exact Or.inr h
      · exact Or.inl (Or.inr h)
    · intro h
      rcases h with ((h | h | h) | h) | h
      · exact Or.inl (Or.inl h)
      · exact Or.inl (Or.inr (Or.inl h))
      · exact Or.inl (Or.inr (Or.inr (Or.inl h)))
      · exact Or.inr h
      · exact Or.inl (Or.inr (Or.inr (Or.inr h)))
  have hus := hRPs (fun k => if k = 3 then dw else D k) rfl rfl rfl rfl rfl rfl
  refine ct_newPage (D := fun k => if k = 3 then dw else D k) (fun k hk => ?_) (fun m hm => ?_) hS.2.2.2 (SP ++ WP) (by rw [List.length_append]; omega) (fun q hq => ?_) (fun q h0 h1 h2 => List.mem_append.mpr (Or.inr (hF q h0 h1 h2))) (fun c f g h0 h1 hu hf => ?_)
  · have : k = 0 ∨ k = 1 ∨ k = 2 ∨ k = 3 := by omega
    rcases this with e | e | e | e <;> subst e
    · exact s1 0 (by omega)
    · exact s1 1 (by omega)
    · exact s1 2 (by omega)
    · exact hrt
  · have : m = 0 ∨ m = 1 := by omega
    rcases this with e | e <;> subst e
    · exact s2 0 (by omega)
    · exact s2 1 (by omega)
  · rcases (hus q).mp hq with h | h
    · exact List.mem_append.mpr (Or.inl h)
    · exact List.mem_append.mpr (Or.inr (hWP q h.1 h.2))
  · have hc : c ∉ SP := fun h => hu ((hus c).mpr (Or.inl h))
    refine hp c f g h0 h1 hc (fun hm => ?_) hf
    rcases hO c hm with e | e
    · omega
    · exact hc (hS.2.1 c e)
theorem ct_sg_ins {α : Type} {F F' : Int → α} {ka kb : List α} {e : α} {b : Int} {n : Nat} (h : ct_sg F b n = ka ++ kb) (h1 : ∀ j : Int, 0 ≤ j → j < ka.length → F' (b + j) = F (b + j)) (h2 : F' (b + ka.length) = e) (h3 : ∀ j : Int, ka.length ≤ j → j < ka.length + kb.length → F' (b + j + 1) = F (b + j)) : ct_sg F' b (n + 1) = ka ++ e :: kb := by
  have hl : n = ka.length + kb.length := by
    have := congrArg List.length h
    rw [ct_sg_len] at this
    simpa using this
  obtain ⟨s1, s2⟩ := ct_sg_spl ka _ _ h
  rw [hl, show ka.length + kb.length + 1 = ka.length + (kb.length + 1) by omega, ct_sg_app]
  have a1 : ct_sg F' b ka.length = ka := Eq.trans (ct_sg_cg _ _ _ (fun j hj hn => h1 j hj hn)) s1
  have a2 : ct_sg F' (b + ka.length) (kb.length + 1) = e :: kb := by
    simp only [ct_sg]
    rw [h2]
    congr 1
    refine Eq.trans (ct_sg_cg _ _ _ (fun j hj hn => ?_)) s2
    have := h3 (ka.length + j) (by omega) (by omega)
    rw [show b + (ka.length : Int) + 1 + j = b + (ka.length + j) + 1 by omega, show b + (ka.length : Int) + j = b + (ka.length + j) by omega]
    exact this
  rw [a1, a2]
theorem ct_sg_del {α : Type} {F F' : Int → α} {ka kb : List α} {e : α} {b : Int} {n : Nat} (h : ct_sg F b (n + 1) = ka ++ e :: kb) (h1 : ∀ j : Int, 0 ≤ j → j < ka.length → F' (b + j) = F (b + j)) (h3 : ∀ j : Int, ka.length ≤ j → j < n → F' (b + j) = F (b + j + 1)) : ct_sg F' b n = ka ++ kb := by
  have hl : n = ka.length + kb.length := by
    have := congrArg List.length h
    rw [ct_sg_len] at this
    simp at this
    omega
  obtain ⟨s1, s2⟩ := ct_sg_spl ka _ _ h
  rw [hl, ct_sg_app]
  have a1 : ct_sg F' b ka.length = ka := Eq.trans (ct_sg_cg _ _ _ (fun j hj hn => h1 j hj hn)) s1
  have a2 : ct_sg F' (b + ka.length) kb.length = kb := by
    simp only [ct_sg, List.length_cons] at s2
    refine Eq.trans (ct_sg_cg _ _ _ (fun j hj hn => ?_)) (List.cons.inj s2).2
    have := h3 (ka.length + j) (by omega) (by omega)
    rw [show b + (ka.length : Int) + 1 + j = b + (ka.length + j) + 1 by omega, show b + (ka.length : Int) + j = b + (ka.length + j) by omega]
    exact this
  rw [a1, a2]
theorem ct_sg_set {α : Type} {F F' : Int → α} {ka kb : List α} {e e' : α} {b : Int} {n : Nat} (h : ct_sg F b n = ka ++ e :: kb) (h1 : ∀ j : Int, 0 ≤ j → j < n → j ≠ ka.length → F' (b + j) = F (b + j)) (h2 : F' (b + ka.length) = e') : ct_sg F' b n = ka ++ e' :: kb := by
  have hl : n = ka.length + (kb.length + 1) := by
    have := congrArg List.length h
    rw [ct_sg_len] at this
    simpa using this
  obtain ⟨s1, s2⟩ := ct_sg_spl ka _ _ h
  rw [hl, ct_sg_app]
  have a1 : ct_sg F' b ka.length = ka := Eq.trans (ct_sg_cg _ _ _ (fun j hj hn => h1 j hj (by omega) (by omega))) s1
  have a2 : ct_sg F' (b + ka.length) (kb.length + 1) = e' :: kb := by
    simp only [ct_sg, List.length_cons] at s2 ⊢
    rw [h2]
    congr 1
    refine Eq.trans (ct_sg_cg _ _ _ (fun j hj hn => ?_)) (List.cons.inj s2).2
    have := h1 (ka.length + 1 + j) (by omega) (by omega) (by omega)
    rw [show b + (ka.length : Int) + 1 + j = b + (ka.length + 1 + j) by omega]
    exact this
  rw [a1, a2]
theorem ct_sg_tk {α : Type} {F F' : Int → α} {ka kb : List α} {b : Int} {n m : Nat} (h : ct_sg F b n = ka ++ kb) (hm : m = ka.length) (h1 : ∀ j : Int, 0 ≤ j → j < ka.length → F' (b + j) = F (b + j)) : ct_sg F' b m = ka := by
  obtain ⟨s1, s2⟩ := ct_sg_spl ka _ _ h
  rw [hm]
  exact Eq.trans (ct_sg_cg _ _ _ (fun j hj hn => h1 j hj hn)) s1
theorem ct_sg_dr {α : Type} {F F' : Int → α} {ka kb : List α} {b b' : Int} {n m : Nat} (h : ct_sg F b n = ka ++ kb) (hm : m = kb.length) (h1 : ∀ j : Int, 0 ≤ j → j < kb.length → F' (b' + j) = F (b + ka.length + j)) : ct_sg F' b' m = kb := by
  obtain ⟨s1, s2⟩ := ct_sg_spl ka _ _ h
  rw [hm]
  exact Eq.trans (ct_sg_cg _ _ _ (fun j hj hn => h1 j hj hn)) s2
theorem ct_sg_2 {α : Type} {F : Int → α} {ka kb : List α} {b : Int} {m n : Nat} (h1 : ct_sg F b m = ka) (h2 : ct_sg F (b + m) n = kb) : ct_sg F b (m + n) = ka ++ kb := by
  rw [ct_sg_app, h1, h2]
/-- a node's lists, from the arrays -/
theorem ct_nd_k {A : Nat → Int → Int} {x : Int} {ks : List ct_KV} {cs : List Int} (h : ct_nd A x = (ks, cs)) : ct_sg (fun j => (A 2 j, A 3 j)) (5 * x) ks.length = ks := by
  have h1 : (ct_nd A x).1 = ks := by rw [h]
  have hl : ks.length = ct_kn A x := by rw [← h1]; exact ct_nd_len
  rw [hl, ← h1]
  rfl
theorem ct_nd_c {A : Nat → Int → Int} {x c : Int} {ks : List ct_KV} {cs : List Int} (h : ct_nd A x = (ks, c :: cs)) : ct_sg (A 4) (6 * x) (ks.length + 1) = c :: cs ∧ ¬ A 4 (6 * x) < 0 ∧ ks.length + 1 = (c :: cs).length := by
  have h1 : (ct_nd A x).1 = ks := by rw [h]
  have h2 : (ct_nd A x).2 = c :: cs := by rw [h]
  have hl : ks.length = ct_kn A x := by rw [← h1]; exact ct_nd_len
  have hn : ¬ A 4 (6 * x) < 0 := by
    intro e
    rw [ct_nd_lf.mpr e] at h2
    simp at h2
  have e : ct_sg (A 4) (6 * x) (ks.length + 1) = c :: cs := by
    rw [hl, ← h2]
    unfold ct_nd
    simp only [hn, if_false]
  refine ⟨e, hn, ?_⟩
  have := congrArg List.length e
  rw [ct_sg_len] at this
  exact this
theorem ct_nd_cap {A : Nat → Int → Int} {x : Int} : (ct_nd A x).1.length ≤ 5 := by
  rw [ct_nd_len]; unfold ct_kn; omega
theorem ct_sR_lo {f : Int → Int} {lo hi j : Int} (h : j ≤ lo ∨ hi < j) : ct_sR f lo hi j = f j := by
  unfold ct_sR; rw [if_neg (by omega)]
theorem ct_sR_in {f : Int → Int} {lo hi j : Int} (h1 : lo < j) (h2 : j ≤ hi) : ct_sR f lo hi j = f (j - 1) := by
  unfold ct_sR; rw [if_pos ⟨h1, h2⟩]
theorem ct_sL_out {f : Int → Int} {lo hi j : Int} (h : j < lo ∨ hi ≤ j) : ct_sL f lo hi j = f j := by
  unfold ct_sL; rw [if_neg (by omega)]
theorem ct_sL_in {f : Int → Int} {lo hi j : Int} (h1 : lo ≤ j) (h2 : j < hi) : ct_sL f lo hi j = f (j + 1) := by
  unfold ct_sL; rw [if_pos ⟨h1, h2⟩]
/-- a pair put in: opened, then filled -/
def ct_ins (A : Nat → Int → Int) (x i k v : Int) : Nat → Int → Int := ct_pat (ct_opn A x i) x i k v
theorem ct_ins_k {A : Nat → Int → Int} {x k v : Int} {ka kb : List ct_KV} (h : (ct_nd A x).1 = ka ++ kb) (hk : A 1 x = ((ct_nd A x).1.length : Int)) (h4 : (ct_nd A x).1.length ≤ 4) : ct_sg (fun j => (ct_ins A x ka.length k v 2 j, ct_ins A x ka.length k v 3 j)) (5 * x) ((ct_nd A x).1.length + 1) = ka ++ (k, v) :: kb := by
  have hs := ct_nd_k (A := A) (x := x) (ks := (ct_nd A x).1) (cs := (ct_nd A x).2) rfl
  have hl : (ct_nd A x).1.length = ka.length + kb.length := by rw [h]; simp
  rw [h] at hs
  rw [h]
  refine ct_sg_ins hs (fun j hj0 hj1 => ?_) ?_ (fun j hj0 hj1 => ?_)
  · show (ct_up (ct_sR (A 2) (5 * x + ka.length) (5 * x + A 1 x)) (5 * x + ka.length) k (5 * x + j), ct_up (ct_sR (A 3) (5 * x + ka.length) (5 * x + A 1 x)) (5 * x + ka.length) v (5 * x + j)) = _
    rw [ct_un (by omega), ct_un (by omega), ct_sR_lo (by omega), ct_sR_lo (by omega)]
  · show (ct_up (ct_sR (A 2) (5 * x + ka.length) (5 * x + A 1 x)) (5 * x + ka.length) k (5 * x + ka.length), ct_up (ct_sR (A 3) (5 * x + ka.length) (5 * x + A 1 x)) (5 * x + ka.length) v (5 * x + ka.length)) = _
    rw [ct_us, ct_us]
  · show (ct_up (ct_sR (A 2) (5 * x + ka.length) (5 * x + A 1 x)) (5 * x + ka.length) k (5 * x + j + 1), ct_up (ct_sR (A 3) (5 * x + ka.length) (5 * x + A 1 x)) (5 * x + ka.length) v (5 * x + j + 1)) = _
    rw [ct_un (by omega), ct_un (by omega), ct_sR_in (by omega) (by omega), ct_sR_in (by omega) (by omega), show 5 * x + j + 1 - 1 = 5 * x + j by omega]
theorem ct_ins_o {A : Nat → Int → Int} {x i k v q : Int} (hq : q ≠ x) (hi : 0 ≤ i) (hi4 : i ≤ 4) (hk4 : A 1 x ≤ 4) : ct_nd (ct_ins A x i k v) q = ct_nd A q ∧ ct_ins A x i k v 1 q = A 1 q := by
  refine ⟨ct_nd_cg (ct_un hq) (fun j hj0 hj1 => ⟨?_, ?_⟩) (fun j _ _ => rfl), ct_un hq⟩
  · show ct_up (ct_sR (A 2) (5 * x + i) (5 * x + A 1 x)) (5 * x + i) k j = A 2 j
    rw [ct_un (by omega), ct_sR_lo (by omega)]
  · show ct_up (ct_sR (A 3) (5 * x + i) (5 * x + A 1 x)) (5 * x + i) v j = A 3 j
    rw [ct_un (by omega), ct_sR_lo (by omega)]
theorem ct_ins_x {A : Nat → Int → Int} {x k v : Int} {ka kb : List ct_KV} (h : ct_nd A x = (ka ++ kb, [])) (hk : A 1 x = ((ct_nd A x).1.length : Int)) (h4 : (ct_nd A x).1.length ≤ 4) : ct_nd (ct_ins A x ka.length k v) x = (ka ++ (k, v) :: kb, []) ∧ ct_ins A x ka.length k v 1 x = ((ka ++ (k, v) :: kb).length : Int) := by
  have h1 : (ct_nd A x).1 = ka ++ kb := by rw [h]
  have hl : (ct_nd A x).1.length = ka.length + kb.length := by rw [h1]; simp
  have hA1 : ct_ins A x ka.length k v 1 x = A 1 x + 1 := ct_us
  refine ⟨ct_nd_mk (n := (ct_nd A x).1.length + 1) (by rw [hA1, hk]; omega) (by omega) (ct_ins_k h1 hk h4) (Or.inl ⟨?_, rfl⟩), ?_⟩
  · exact (ct_nd_lf (A := A)).mp (by rw [h])
  · rw [hA1, hk, hl]; simp; omega
/-- a pair taken out -/
theorem ct_clp_k {A : Nat → Int → Int} {x : Int} {e : ct_KV} {ka kb : List ct_KV} (h : (ct_nd A x).1 = ka ++ e :: kb) (hk : A 1 x = ((ct_nd A x).1.length : Int)) : ct_sg (fun j => (ct_clp A x ka.length 2 j, ct_clp A x ka.length 3 j)) (5 * x) (ka.length + kb.length) = ka ++ kb := by
  have hs := ct_nd_k (A := A) (x := x) (ks := (ct_nd A x).1) (cs := (ct_nd A x).2) rfl
  have hl : (ct_nd A x).1.length = ka.length + kb.length + 1 := by rw [h]; simp; omega
  rw [hl, h] at hs
  refine ct_sg_del hs (fun j hj0 hj1 => ?_) (fun j hj0 hj1 => ?_)
  · show (ct_sL (A 2) (5 * x + ka.length) (5 * x + (A 1 x - 1)) (5 * x + j), ct_sL (A 3) (5 * x + ka.length) (5 * x + (A 1 x - 1)) (5 * x + j)) = _
    rw [ct_sL_out (by omega), ct_sL_out (by omega)]
  · show (ct_sL (A 2) (5 * x + ka.length) (5 * x + (A 1 x - 1)) (5 * x + j), ct_sL (A 3) (5 * x + ka.length) (5 * x + (A 1 x - 1)) (5 * x + j)) = _
    rw [ct_sL_in (by omega) (by omega), ct_sL_in (by omega) (by omega)]
theorem ct_clp_o {A : Nat → Int → Int} {x i q : Int} (hq : q ≠ x) (hi : 0 ≤ i) (hk5 : A 1 x ≤ 5) : ct_nd (ct_clp A x i) q = ct_nd A q ∧ ct_clp A x i 1 q = A 1 q := by
  refine ⟨ct_nd_cg (ct_un hq) (fun j hj0 hj1 => ⟨?_, ?_⟩) (fun j _ _ => rfl), ct_un hq⟩
  · show ct_sL (A 2) (5 * x + i) (5 * x + (A 1 x - 1)) j = A 2 j
    rw [ct_sL_out (by omega)]
  · show ct_sL (A 3) (5 * x + i) (5 * x + (A 1 x - 1)) j = A 3 j
    rw [ct_sL_out (by omega)]
theorem ct_clp_x {A : Nat → Int → Int} {x : Int} {e : ct_KV} {ka kb : List ct_KV} (h : ct_nd A x = (ka ++ e :: kb, [])) (hk : A 1 x = ((ct_nd A x).1.length : Int)) : ct_nd (ct_clp A x ka.length) x = (ka ++ kb, []) ∧ ct_clp A x ka.length 1 x = ((ka ++ kb).length : Int) := by
  have h1 : (ct_nd A x).1 = ka ++ e :: kb := by rw [h]
  have hl : (ct_nd A x).1.length = ka.length + kb.length + 1 := by rw [h1]; simp; omega
  have hA1 : ct_clp A x ka.length 1 x = A 1 x - 1 := ct_us
  have hcap := ct_nd_cap (A := A) (x := x)
  refine ⟨ct_nd_mk (n := ka.length + kb.length) (by rw [hA1, hk]; omega) (by omega) (ct_clp_k h1 hk) (Or.inl ⟨?_, rfl⟩), ?_⟩
  · exact (ct_nd_lf (A := A)).mp (by rw [h])
  · rw [hA1, hk, hl]; simp only [List.length_append]; omega
/-- a pair written over -/
theorem ct_pat_x {A : Nat → Int → Int} {x k v : Int} {e : ct_KV} {ka kb : List ct_KV} {cs : List Int} (h : ct_nd A x = (ka ++ e :: kb, cs)) : ct_nd (ct_pat A x ka.length k v) x = (ka ++ (k, v) :: kb, cs) := by
  have h1 : (ct_nd A x).1 = ka ++ e :: kb := by rw [h]
  have h2 : (ct_nd A x).2 = cs := by rw [h]
  have hs := ct_nd_k h
  have hl : ct_kn A x = (ka ++ e :: kb).length := by rw [← h1]; exact ct_nd_len.symm
  have hk : ct_kn (ct_pat A x ka.length k v) x = ct_kn A x := rfl
  have e1 : ct_sg (fun j => (ct_pat A x ka.length k v 2 j, ct_pat A x ka.length k v 3 j)) (5 * x) (ct_kn A x) = ka ++ (k, v) :: kb := by
    rw [hl]
    refine ct_sg_set hs (fun j hj0 hj1 hj => ?_) ?_
    · show (ct_up (A 2) (5 * x + ka.length) k (5 * x + j), ct_up (A 3) (5 * x + ka.length) v (5 * x + j)) = _
      rw [ct_un (by omega), ct_un (by omega)]
    · show (ct_up (A 2) (5 * x + ka.length) k (5 * x + ka.length), ct_up (A 3) (5 * x + ka.length) v (5 * x + ka.length)) = _
      rw [ct_us, ct_us]
  rw [← h2]
  unfold ct_nd
  rw [hk, e1]
  rfl
theorem ct_pat_o {A : Nat → Int → Int} {x i k v q : Int} (hq : q ≠ x) (hi : 0 ≤ i) (hi4 : i ≤ 4) : ct_nd (ct_pat A x i k v) q = ct_nd A q := by
  refine ct_nd_cg rfl (fun j hj0 hj1 => ⟨?_, ?_⟩) (fun j _ _ => rfl)
  · show ct_up (A 2) (5 * x + i) k j = A 2 j
    rw [ct_un (by omega)]
  · show ct_up (A 3) (5 * x + i) v j = A 3 j
    rw [ct_un (by omega)]
end
section
/-! ===== 16: a page with one child x, or with two neighbours x y, over the same pages below ===== -/
theorem ct_sib {G H : ct_Hp} {d : Nat} {cs : List Int} (h : ∀ q, q ∈ ct_pn H (d + 1) cs → G q = H q) : cs.map (ct_fl G d) = cs.map (ct_fl H d) ∧ cs.map (ct_pg G d) = cs.map (ct_pg H d) ∧ ∀ c, c ∈ cs → ct_wf H d c → ct_wf G d c := by
  have hc : ∀ c, c ∈ cs → ∀ q, q ∈ ct_pg H d c → G q = H q := by
    intro c hc q hq
    refine h q ?_
    simp only [ct_pn, List.mem_flatten, List.mem_map]
    exact ⟨_, ⟨c, hc, rfl⟩, hq⟩
  exact ⟨List.map_congr_left (fun c hm => (ct_cg d c (hc c hm)).2.1), List.map_congr_left (fun c hm => (ct_cg d c (hc c hm)).1), fun c hm hw => ct_wf_cg (hc c hm) hw⟩
theorem ct_one {G H : ct_Hp} {d : Nat} {p x : Int} {ka kb K : List ct_KV} {ca cb C : List Int} (hp : G p = (ka ++ kb, ca ++ x :: cb)) (hl : ka.length = ca.length) (hx : G x = (K, C)) (hs : ∀ q, q ∈ ct_pn H (d + 1) (ca ++ cb) ++ ct_pn H d C → G q = H q) :
    ct_fl G (d + 1) p = ct_zl ka (ca.map (ct_fl H d)) ++ (ct_nf H d (K, C) ++ ct_zr kb (cb.map (ct_fl H d))) ∧ (ct_pg G (d + 1) p).Perm (p :: x :: (ct_pn H (d + 1) (ca ++ cb) ++ ct_pn H d C)) ∧
    (ct_no H d (K, C) → (∀ c, c ∈ ca ++ cb → ct_wf H d c) → kb.length = cb.length → 2 ≤ K.length → K.length ≤ 4 → ct_sh G (d + 1) p) := by
  obtain ⟨s1, s2, s3⟩ := ct_sib (G := G) (H := H) (d := d) (cs := ca ++ cb) (fun q hq => hs q (List.mem_append.mpr (Or.inl hq)))
  obtain ⟨n1, n2, n3⟩ := ct_no_cg (H := H) (H' := G) (d := d) (n := (K, C)) (fun q hq => hs q (List.mem_append.mpr (Or.inr hq)))
  simp only [List.map_append] at s1 s2
  have s1' := List.append_inj s1 (by simp)
  have s2' := List.append_inj s2 (by simp)
  refine ⟨?_, ?_, ?_⟩
  · rw [ct_fl_cut (d := d) hp hl, s1'.1, s1'.2, ct_nf_fl (x := x), hx, n2]
  · have e : ct_pg G (d + 1) p = p :: ((ca.map (ct_pg H d)).flatten ++ ((x :: ct_pn H d C) ++ (cb.map (ct_pg H d)).flatten)) := by
      simp only [ct_pg, hp, List.map_append, List.map_cons, List.flatten_append, List.flatten_cons]
      rw [s2'.1, s2'.2, ct_pn_pg (x := x), hx]
      simp only [n3]
    rw [e]
    refine List.Perm.cons p ?_
    refine List.Perm.trans (List.perm_append_comm_assoc _ _ _) ?_
    rw [List.cons_append]
    refine List.Perm.cons x ?_
    simp only [ct_pn, List.map_append, List.flatten_append]
    exact List.perm_append_comm
  · intro hno hw hlb h2 h4
    refine ct_up_sh hp hl hlb (fun c hc => s3 c hc (hw c hc)) ⟨?_, ?_, ?_⟩
    · rw [ct_no_sh, hx]; exact n1 hno
    · rw [hx]; exact h2
    · rw [hx]; exact h4
theorem ct_two {G H : ct_Hp} {d : Nat} {p x y : Int} {ka kb k1 k2 : List ct_KV} {s : ct_KV} {ca cb c1 c2 : List Int} (hp : G p = (ka ++ s :: kb, ca ++ x :: y :: cb)) (hl : ka.length = ca.length) (hx : G x = (k1, c1)) (hy : G y = (k2, c2)) (hs : ∀ q, q ∈ ct_pn H (d + 1) (ca ++ cb) ++ (ct_pn H d c1 ++ ct_pn H d c2) → G q = H q) :
    ct_fl G (d + 1) p = ct_zl ka (ca.map (ct_fl H d)) ++ ((ct_nf H d (k1, c1) ++ s :: ct_nf H d (k2, c2)) ++ ct_zr kb (cb.map (ct_fl H d))) ∧ (ct_pg G (d + 1) p).Perm (p :: x :: y :: (ct_pn H (d + 1) (ca ++ cb) ++ (ct_pn H d c1 ++ ct_pn H d c2))) ∧
    (ct_no H d (k1, c1) → ct_no H d (k2, c2) → (∀ c, c ∈ ca ++ cb → ct_wf H d c) → kb.length = cb.length → 2 ≤ k1.length → k1.length ≤ 4 → 2 ≤ k2.length → k2.length ≤ 4 → ct_sh G (d + 1) p) := by
  obtain ⟨s1, s2, s3⟩ := ct_sib (G := G) (H := H) (d := d) (cs := ca ++ cb) (fun q hq => hs q (List.mem_append.mpr (Or.inl hq)))
  obtain ⟨n1, n2, n3⟩ := ct_no_cg (H := H) (H' := G) (d := d) (n := (k1, c1)) (fun q hq => hs q (List.mem_append.mpr (Or.inr (List.mem_append.mpr (Or.inl hq)))))
  obtain ⟨m1, m2, m3⟩ := ct_no_cg (H := H) (H' := G) (d := d) (n := (k2, c2)) (fun q hq => hs q (List.mem_append.mpr (Or.inr (List.mem_append.mpr (Or.inr hq)))))
  simp only [List.map_append] at s1 s2
  have s1' := List.append_inj s1 (by simp)
  have s2' := List.append_inj s2 (by simp)
  refine ⟨?_, ?_, ?_⟩
  · rw [ct_fl_two (d := d) hp hl, s1'.1, s1'.2, ct_nf_fl (x := x), ct_nf_fl (x := y), hx, hy, n2, m2]
  · have e : ct_pg G (d + 1) p = p :: ((ca.map (ct_pg H d)).flatten ++ ((x :: ct_pn H d c1) ++ ((y :: ct_pn H d c2) ++ (cb.map (ct_pg H d)).flatten))) := by
      simp only [ct_pg, hp, List.map_append, List.map_cons, List.flatten_append, List.flatten_cons]
      rw [s2'.1, s2'.2, ct_pn_pg (x := x), ct_pn_pg (x := y), hx, hy]
      simp only [n3, m3]
    rw [e]
    refine List.Perm.cons p ?_
    refine List.Perm.trans (List.perm_append_comm_assoc _ _ _) ?_
    rw [List.cons_append]
    refine List.Perm.cons x ?_
    refine List.Perm.trans (List.Perm.append_left _ (List.perm_append_comm_assoc _ _ _)) ?_
    refine List.Perm.trans (List.perm_append_comm_assoc _ _ _) ?_
    rw [List.cons_append]
    refine List.Perm.cons y ?_
    simp only [ct_pn, List.map_append, List.flatten_append]
    refine List.Perm.trans (List.perm_append_comm_assoc _ _ _) ?_
    rw [← List.append_assoc]
    exact List.perm_append_comm
  · intro hn1 hn2 hw hlb h2 h4 g2 g4
    refine ct_up_sh (x := x) (ka := ka) (kb := s :: kb) (ca := ca) (cb := y :: cb) hp hl (by simp [hlb]) (fun c hc => ?_) ⟨?_, ?_, ?_⟩
    · simp only [List.mem_append, List.mem_cons] at hc
      rcases hc with h | h | h
      · exact s3 c (by simp [h]) (hw c (by simp [h]))
      · subst h
        refine ⟨?_, ?_, ?_⟩
        · rw [ct_no_sh, hy]; exact m1 hn2
        · rw [hy]; exact g2
        · rw [hy]; exact g4
      · exact s3 c (by simp [h]) (hw c (by simp [h]))
    · rw [ct_no_sh, hx]; exact n1 hn1
    · rw [hx]; exact h2
    · rw [hx]; exact h4
end
section
/-! ===== 17: split ===== -/
def ct_sk (A : Nat → Int → Int) (x y k : Int) : Nat → Int → Int := ct_st (ct_st A 2 (ct_cp (A 2) (5 * y) (5 * x + 3) k)) 3 (ct_cp (A 3) (5 * y) (5 * x + 3) k)
def ct_sc (A : Nat → Int → Int) (x y k : Int) : Nat → Int → Int := ct_st A 4 (ct_cp (A 4) (6 * y) (6 * x + 3) k)
theorem ct_split_71 {post : St1 → Prop} {A : Nat → Int → Int} {L x y : Int} (hx0 : 0 ≤ x) (hx1 : x < 100) (hy0 : 0 ≤ y) (hy1 : y < 100) (hne : x ≠ y) (hp : wX_split_109 post (ct_i L) (ct_i x) (ct_i y) (ct_i (A 0 0)) (ct_c ((ct_sc A x y 3) 1)) (ct_c ((ct_sc A x y 3) 2)) (ct_a ((ct_sc A x y 3) 3)) (ct_c ((ct_sc A x y 3) 4)) (ct_a ((ct_sc A x y 3) 5)) (ct_a ((ct_sc A x y 3) 6)) (ct_c ((ct_sc A x y 3) 7)) (ct_c ((ct_sc A x y 3) 8)) (ct_a ((ct_sc A x y 3) 9)) (ct_a ((ct_sc A x y 3) 10)) (ct_c ((ct_sc A x y 3) 11)) (ct_c ((ct_sc A x y 3) 12)) (ct_a ((ct_sc A x y 3) 13)) (ct_c ((ct_sc A x y 3) 14)) (ct_c ((ct_sc A x y 3) 15)) (ct_c ((ct_sc A x y 3) 16))) : ∀ (m : Nat) (k : Int), 0 ≤ k → k + m = 3 → wX_split_71 post (ct_i L) (ct_i x) (ct_i y) (ct_i (A 0 0)) (m + 1) (ct_i k) (ct_c ((ct_sc A x y k) 1)) (ct_c ((ct_sc A x y k) 2)) (ct_a ((ct_sc A x y k) 3)) (ct_c ((ct_sc A x y k) 4)) (ct_a ((ct_sc A x y k) 5)) (ct_a ((ct_sc A x y k) 6)) (ct_c ((ct_sc A x y k) 7)) (ct_c ((ct_sc A x y k) 8)) (ct_a ((ct_sc A x y k) 9)) (ct_a ((ct_sc A x y k) 10)) (ct_c ((ct_sc A x y k) 11)) (ct_c ((ct_sc A x y k) 12)) (ct_a ((ct_sc A x y k) 13)) (ct_c ((ct_sc A x y k) 14)) (ct_c ((ct_sc A x y k) 15)) (ct_c ((ct_sc A x y k) 16)) := by
  intro m
  induction m with
  | zero =>
    intro k hk0 hk
    have e : k = 3 := by omega
    subst e
    unfold wX_split_71
    exact br_t (by decide) hp
  | succ m ih =>
    intro k hk0 hk
    unfold wX_split_71
    refine br_f ?_ ?_
    · show ¬ ct_i 3 ≤ ct_i k
      rw [ct_le (by omega) (by omega) (by omega) (by omega)]; omega
    · simp (disch := omega) only [ct_l0, ct_l1, ct_l2, ct_l3, ct_l4, ct_l5, ct_l6, ct_l24, ct_l25, ct_l99, ct_l100, ct_neg, ct_add, ct_sub, ct_mul, ct_inT, ct_rd, ct_rc, ct_wr, ct_wc, ct_wci, ct_bI, ct_nb, ct_nbi, ct_tb, ct_le, ct_lt, ct_eq, ct_rc0, ct_rc1, ct_rc3, ct_rd0, ct_rd1, ct_wc3, ct_wc3i, ct_wc0, ct_wc0i, ct_wr0, true_and, forall_eq]
      have := ih (k + 1) (by omega) (by omega)
      unfold ct_sc at this
      rw [← ct_cp_up hk0 (by omega)] at this
      exact this
theorem ct_split_15 {post : St1 → Prop} {A : Nat → Int → Int} {L x y : Int} (hx0 : 0 ≤ x) (hx1 : x < 100) (hy0 : 0 ≤ y) (hy1 : y < 100) (hne : x ≠ y) (hb : -128 ≤ A 4 (6 * x) ∧ A 4 (6 * x) < 128)
    (hp0 : A 4 (6 * x) < 0 → wX_split_109 post (ct_i L) (ct_i x) (ct_i y) (ct_i (A 0 0)) (ct_c ((ct_sk A x y 2) 1)) (ct_c ((ct_sk A x y 2) 2)) (ct_a ((ct_sk A x y 2) 3)) (ct_c ((ct_sk A x y 2) 4)) (ct_a ((ct_sk A x y 2) 5)) (ct_a ((ct_sk A x y 2) 6)) (ct_c ((ct_sk A x y 2) 7)) (ct_c ((ct_sk A x y 2) 8)) (ct_a ((ct_sk A x y 2) 9)) (ct_a ((ct_sk A x y 2) 10)) (ct_c ((ct_sk A x y 2) 11)) (ct_c ((ct_sk A x y 2) 12)) (ct_a ((ct_sk A x y 2) 13)) (ct_c ((ct_sk A x y 2) 14)) (ct_c ((ct_sk A x y 2) 15)) (ct_c ((ct_sk A x y 2) 16))) (hp1 : ¬ A 4 (6 * x) < 0 → wX_split_109 post (ct_i L) (ct_i x) (ct_i y) (ct_i (A 0 0)) (ct_c ((ct_sc (ct_sk A x y 2) x y 3) 1)) (ct_c ((ct_sc (ct_sk A x y 2) x y 3) 2)) (ct_a ((ct_sc (ct_sk A x y 2) x y 3) 3)) (ct_c ((ct_sc (ct_sk A x y 2) x y 3) 4)) (ct_a ((ct_sc (ct_sk A x y 2) x y 3) 5)) (ct_a ((ct_sc (ct_sk A x y 2) x y 3) 6)) (ct_c ((ct_sc (ct_sk A x y 2) x y 3) 7)) (ct_c ((ct_sc (ct_sk A x y 2) x y 3) 8)) (ct_a ((ct_sc (ct_sk A x y 2) x y 3) 9)) (ct_a ((ct_sc (ct_sk A x y 2) x y 3) 10)) (ct_c ((ct_sc (ct_sk A x y 2) x y 3) 11)) (ct_c ((ct_sc (ct_sk A x y 2) x y 3) 12)) (ct_a ((ct_sc (ct_sk A x y 2) x y 3) 13)) (ct_c ((ct_sc (ct_sk A x y 2) x y 3) 14)) (ct_c ((ct_sc (ct_sk A x y 2) x y 3) 15)) (ct_c ((ct_sc (ct_sk A x y 2) x y 3) 16))) :
    ∀ (m : Nat) (k : Int), 0 ≤ k → k + m = 2 → wX_split_15 post (ct_i L) (ct_i x) (ct_i y) (m + 1) (ct_i k) (ct_i (A 0 0)) (ct_c ((ct_sk A x y k) 1)) (ct_c ((ct_sk A x y k) 2)) (ct_a ((ct_sk A x y k) 3)) (ct_c ((ct_sk A x y k) 4)) (ct_a ((ct_sk A x y k) 5)) (ct_a ((ct_sk A x y k) 6)) (ct_c ((ct_sk A x y k) 7)) (ct_c ((ct_sk A x y k) 8)) (ct_a ((ct_sk A x y k) 9)) (ct_a ((ct_sk A x y k) 10)) (ct_c ((ct_sk A x y k) 11)) (ct_c ((ct_sk A x y k) 12)) (ct_a ((ct_sk A x y k) 13)) (ct_c ((ct_sk A x y k) 14)) (ct_c ((ct_sk A x y k) 15)) (ct_c ((ct_sk A x y k) 16)) := by
  intro m
  induction m with
  | zero =>
    intro k hk0 hk
    have e : k = 2 := by omega
    subst e
    unfold wX_split_15
    refine br_t (by decide) ?_
    refine ct_isLeaf (A := ct_sk A x y 2) hx0 hx1 hb ?_
    by_cases h : A 4 (6 * x) < 0
    · rw [if_pos (show ct_sk A x y 2 4 (6 * x) < 0 from h)]
      exact br_f (by decide) (hp0 h)
    · rw [if_neg (show ¬ ct_sk A x y 2 4 (6 * x) < 0 from h)]
      refine br_t rfl ⟨4, ?_⟩
      have := ct_split_71 (A := ct_sk A x y 2) (L := L) hx0 hx1 hy0 hy1 hne (hp1 h) 3 0 (by omega) (by omega)
      unfold ct_sc at this
      rw [ct_cp_0] at this
      exact this
  | succ m ih =>
    intro k hk0 hk
    have e5 : (5 : Int32) * ct_i x + 3 + ct_i k = ct_i (5 * x + 3 + k) := by rw [ct_l5, ct_l3, ct_mul, ct_add, ct_add]
    unfold wX_split_15
    refine br_f ?_ ?_
    · show ¬ ct_i 2 ≤ ct_i k
      rw [ct_le (by omega) (by omega) (by omega) (by omega)]; omega
    · rw [e5]
      refine ⟨ct_in (by omega) (by omega) (by decide), ct_in (by omega) (by omega) (by decide), ?_⟩
      refine ct_putAt (A := ct_sk A x y k) (ct_sk A x y k 2 (5 * x + 3 + k)) (ct_sk A x y k 3 (5 * x + 3 + k)) (by omega) (by omega) (by rw [ct_rc (by omega) (by omega), ct_tbb]) (ct_rd (by omega) (by omega)) ?_
      refine nm_r (e' := ct_i (k + 1)) (ct_add k 1) ?_
      have := ih (k + 1) (by omega) (by omega)
      unfold ct_sk at this
      rw [← ct_cp_up hk0 (by omega), ← ct_cp_up hk0 (by omega)] at this
      exact this
/-- x cut in two: the upper part in y -/
def ct_s1 (A : Nat → Int → Int) (x y : Int) : Nat → Int → Int := ct_st A 1 (ct_up (ct_up (A 1) y 2) x 2)
/-- y hung behind x under p at place i -/
def ct_s2 (C : Nat → Int → Int) (p i x y : Int) : Nat → Int → Int := ct_chd (ct_ins (ct_st C 4 (ct_sR (C 4) (6 * p + (i + 1)) (6 * p + (C 1 p + 1)))) p i (C 2 (5 * x + 2)) (C 3 (5 * x + 2))) p (i + 1) y
theorem ct_split_174 {post : St1 → Prop} {A : Nat → Int → Int} {x y p i : Int} (hx0 : 0 ≤ x) (hx1 : x < 100) (hy0 : 0 ≤ y) (hy1 : y < 100) (hp0 : 0 ≤ p) (hp1 : p < 100) (hpx : p ≠ x) (hi : 0 ≤ i) (hin : i ≤ A 1 p) (hn : A 1 p ≤ 4) (hp : post (ct_lf (ct_s2 A p i x y))) :
    ∀ (m : Nat) (k : Int), k = i + 1 + m → k ≤ A 1 p + 1 → wX_split_174 post (ct_i x) (ct_i y) (ct_i p) (ct_i i) (ct_i (A 0 0)) (m + 1) (ct_i k) (ct_c ((ct_st A 4 (ct_sR (A 4) (6 * p + k) (6 * p + (A 1 p + 1)))) 1)) (ct_c ((ct_st A 4 (ct_sR (A 4) (6 * p + k) (6 * p + (A 1 p + 1)))) 2)) (ct_a ((ct_st A 4 (ct_sR (A 4) (6 * p + k) (6 * p + (A 1 p + 1)))) 3)) (ct_c ((ct_st A 4 (ct_sR (A 4) (6 * p + k) (6 * p + (A 1 p + 1)))) 4)) (ct_a ((ct_st A 4 (ct_sR (A 4) (6 * p + k) (6 * p + (A 1 p + 1)))) 5)) (ct_a ((ct_st A 4 (ct_sR (A 4) (6 * p + k) (6 * p + (A 1 p + 1)))) 6)) (ct_c ((ct_st A 4 (ct_sR (A 4) (6 * p + k) (6 * p + (A 1 p + 1)))) 7)) (ct_c ((ct_st A 4 (ct_sR (A 4) (6 * p + k) (6 * p + (A 1 p + 1)))) 8)) (ct_a ((ct_st A 4 (ct_sR (A 4) (6 * p + k) (6 * p + (A 1 p + 1)))) 9)) (ct_a ((ct_st A 4 (ct_sR (A 4) (6 * p + k) (6 * p + (A 1 p + 1)))) 10)) (ct_c ((ct_st A 4 (ct_sR (A 4) (6 * p + k) (6 * p + (A 1 p + 1)))) 11)) (ct_c ((ct_st A 4 (ct_sR (A 4) (6 * p + k) (6 * p + (A 1 p + 1)))) 12)) (ct_a ((ct_st A 4 (ct_sR (A 4) (6 * p + k) (6 * p + (A 1 p + 1)))) 13)) (ct_c ((ct_st A 4 (ct_sR (A 4) (6 * p + k) (6 * p + (A 1 p + 1)))) 14)) (ct_c ((ct_st A 4 (ct_sR (A 4) (6 * p + k) (6 * p + (A 1 p + 1)))) 15)) (ct_c ((ct_st A 4 (ct_sR (A 4) (6 * p + k) (6 * p + (A 1 p + 1)))) 16)) := by
  intro m
  have e1 : ct_i i + 1 = ct_i (i + 1) := ct_add i 1
  induction m with
  | zero =>
    intro k hk hkn
    have e : k = i + 1 := by omega
    subst e
    unfold wX_split_174
    rw [e1]
    refine br_t ?_ ?_
    · rw [ct_le (by omega) (by omega) (by omega) (by omega)]; omega
    refine ct_openPlace (A := ct_st A 4 (ct_sR (A 4) (6 * p + (i + 1)) (6 * p + (A 1 p + 1)))) hp0 hp1 hi hin hn ?_
    have e5 : (5 : Int32) * ct_i x + 2 = ct_i (5 * x + 2) := by rw [ct_l5, ct_l2, ct_mul, ct_add]
    have e6 : (6 : Int32) * ct_i p + ct_i i + 1 = ct_i (6 * p + (i + 1)) := by rw [ct_l6, ct_l1, ct_mul, ct_add, ct_add]; congr 1; omega
    have r2 : ct_c (ct_sR (A 2) (5 * p + i) (5 * p + A 1 p)) (ct_i (5 * x + 2)).toNatClampNeg = ct_b (A 2 (5 * x + 2)) := by rw [ct_rc (by omega) (by omega), ct_sR_lo (by omega)]
    have r3 : ct_a (ct_sR (A 3) (5 * p + i) (5 * p + A 1 p)) (ct_i (5 * x + 2)).toNatClampNeg = ct_i (A 3 (5 * x + 2)) := by rw [ct_rd (by omega) (by omega), ct_sR_lo (by omega)]
    rw [e5]
    refine ⟨ct_in (by omega) (by omega) (by decide), ct_in (by omega) (by omega) (by decide), ?_⟩
    refine ct_putAt (A := ct_opn (ct_st A 4 (ct_sR (A 4) (6 * p + (i + 1)) (6 * p + (A 1 p + 1)))) p i) (A 2 (5 * x + 2)) (A 3 (5 * x + 2)) (by omega) (by omega) (Eq.trans (congrArg (fun z : Int32 => z.toInt8.toInt32) r2) (ct_tbb _)) r3 ?_
    rw [e6]
    refine ⟨ct_in (by omega) (by omega) (by decide), nm_r (e' := ct_c (ct_up (ct_sR (A 4) (6 * p + (i + 1)) (6 * p + (A 1 p + 1))) (6 * p + (i + 1)) y)) (by rw [ct_tb]; exact ct_wc (by omega) (by omega)) ?_⟩
    exact hp
  | succ m ih =>
    intro k hk hkn
    unfold wX_split_174
    rw [e1]
    refine br_f ?_ ?_
    · rw [ct_le (by omega) (by omega) (by omega) (by omega)]; omega
    · simp (disch := omega) only [ct_l0, ct_l1, ct_l2, ct_l3, ct_l4, ct_l5, ct_l6, ct_l24, ct_l25, ct_l99, ct_l100, ct_neg, ct_add, ct_sub, ct_mul, ct_inT, ct_rd, ct_rc, ct_wr, ct_wc, ct_wci, ct_bI, ct_nb, ct_nbi, ct_tb, ct_le, ct_lt, ct_eq, ct_rc0, ct_rc1, ct_rc3, ct_rd0, ct_rd1, ct_wc3, ct_wc3i, ct_wc0, ct_wc0i, ct_wr0, true_and, forall_eq]
      have := ih (k - 1) (by omega) (by omega)
      rw [show 6 * p + (k - 1) = 6 * p + k - 1 by omega, ← ct_sR_up (by omega)] at this
      exact this
theorem ct_split_161 {post : St1 → Prop} {A : Nat → Int → Int} {x y p i : Int} (hx0 : 0 ≤ x) (hx1 : x < 100) (hy0 : 0 ≤ y) (hy1 : y < 100) (hp0 : 0 ≤ p) (hp1 : p < 100) (hpx : p ≠ x) (hi : 0 ≤ i) (hin : i ≤ A 1 p) (hn : A 1 p ≤ 4) (hp : post (ct_lf (ct_s2 A p i x y))) : wX_split_161 post (ct_i x) (ct_i y) (ct_i p) (ct_i i) (ct_i (A 0 0)) (ct_c (A 1)) (ct_c (A 2)) (ct_a (A 3)) (ct_c (A 4)) (ct_a (A 5)) (ct_a (A 6)) (ct_c (A 7)) (ct_c (A 8)) (ct_a (A 9)) (ct_a (A 10)) (ct_c (A 11)) (ct_c (A 12)) (ct_a (A 13)) (ct_c (A 14)) (ct_c (A 15)) (ct_c (A 16)) := by
  unfold wX_split_161
  refine ⟨ct_in hp0 (by omega) (by decide), nm_r (e' := ct_i (A 1 p + 1)) (by rw [ct_rc hp0 (by omega), ct_bI (by omega) (by omega), ct_l1, ct_add]) ⟨(A 1 p - i).toNat + 1, ?_⟩⟩
  have := ct_split_174 hx0 hx1 hy0 hy1 hp0 hp1 hpx hi hin hn hp (A 1 p - i).toNat (A 1 p + 1) (by omega) (by omega)
  rw [ct_sR_0] at this
  exact this
/-- what the first half of split does to the nodes -/
def ct_sH (A : Nat → Int → Int) (x y : Int) : Nat → Int → Int := ct_s1 (if A 4 (6 * x) < 0 then ct_sk A x y 2 else ct_sc (ct_sk A x y 2) x y 3) x y
theorem ct_sH_4 {A : Nat → Int → Int} {x y q : Int} (h : q ≠ y) : ∀ j, 6 * q ≤ j → j < 6 * q + 6 → ct_sH A x y 4 j = A 4 j := by
  intro j h0 h1
  unfold ct_sH
  by_cases e : A 4 (6 * x) < 0
  · rw [if_pos e]; rfl
  · rw [if_neg e]
    show ct_cp (A 4) (6 * y) (6 * x + 3) 3 j = A 4 j
    rw [ct_cp_out (by omega)]
theorem ct_sH_23 {A : Nat → Int → Int} {x y : Int} : ct_sH A x y 2 = ct_cp (A 2) (5 * y) (5 * x + 3) 2 ∧ ct_sH A x y 3 = ct_cp (A 3) (5 * y) (5 * x + 3) 2 ∧ ct_sH A x y 5 = A 5 ∧ ct_sH A x y 1 = ct_up (ct_up (A 1) y 2) x 2 ∧ ct_sH A x y 11 = A 11 ∧ ct_sH A x y 0 = A 0 ∧ ct_sH A x y 7 = A 7 ∧ ct_sH A x y 10 = A 10 := by
  unfold ct_sH
  by_cases e : A 4 (6 * x) < 0
  · rw [if_pos e]; exact ⟨rfl, rfl, rfl, rfl, rfl, rfl, rfl, rfl⟩
  · rw [if_neg e]; exact ⟨rfl, rfl, rfl, rfl, rfl, rfl, rfl, rfl⟩
theorem ct_sH_o {A : Nat → Int → Int} {x y q : Int} (h1 : q ≠ x) (h2 : q ≠ y) : ct_nd (ct_sH A x y) q = ct_nd A q ∧ ct_sH A x y 1 q = A 1 q ∧ ct_sH A x y 4 (6 * q) = A 4 (6 * q) := by
  obtain ⟨e2, e3, e5, e1, e11, e0, e7, e10⟩ := ct_sH_23 (A := A) (x := x) (y := y)
  have a1 : ct_sH A x y 1 q = A 1 q := by rw [e1, ct_un h1, ct_un h2]
  refine ⟨ct_nd_cg a1 (fun j _ _ => ⟨?_, ?_⟩) (fun j h0 h1 => ct_sH_4 h2 j h0 h1), a1, ct_sH_4 h2 _ (by omega) (by omega)⟩
  · rw [e2, ct_cp_out (by omega)]
  · rw [e3, ct_cp_out (by omega)]
theorem ct_sH_xy {A : Nat → Int → Int} {x y : Int} {k1 k2 : List ct_KV} {m : ct_KV} {c1 c2 : List Int} (hne : x ≠ y) (h : ct_nd A x = (k1 ++ m :: k2, c1 ++ c2)) (hl1 : k1.length = 2) (hl2 : k2.length = 2) (hc : (c1 = [] ∧ c2 = []) ∨ (c1.length = 3 ∧ c2.length = 3)) (hy4 : A 4 (6 * y) = -1) (hr : ∀ c, c ∈ c2 → 0 ≤ c) :
    ct_nd (ct_sH A x y) x = (k1, c1) ∧ ct_nd (ct_sH A x y) y = (k2, c2) ∧ ct_sH A x y 2 (5 * x + 2) = m.1 ∧ ct_sH A x y 3 (5 * x + 2) = m.2 := by
  obtain ⟨e2, e3, e5, e1, e11, e0, e7, e10⟩ := ct_sH_23 (A := A) (x := x) (y := y)
  have hk := ct_nd_k h
  have hkv := ct_nd_kv (A := A) (x := x) (ka := k1) (e := m) (kb := k2) (by rw [h])
  rw [hl1] at hkv
  have b1 : ct_sH A x y 1 x = ((2 : Nat) : Int) := by rw [e1]; exact ct_us
  have b2 : ct_sH A x y 1 y = ((2 : Nat) : Int) := by rw [e1, ct_un (fun e => hne e.symm)]; exact ct_us
  refine ⟨ct_nd_mk (n := 2) b1 (by omega) ?_ ?_, ct_nd_mk (n := 2) b2 (by omega) ?_ ?_, ?_, ?_⟩
  · refine ct_sg_tk hk hl1.symm (fun j h0 h1 => ?_)
    rw [e2, e3, ct_cp_out (by omega), ct_cp_out (by omega)]
  · rcases hc with ⟨e, e'⟩ | ⟨e, e'⟩
    · left
      subst e e'
      refine ⟨?_, rfl⟩
      rw [ct_sH_4 hne _ (by omega) (by omega)]
      exact ct_nd_lf.mp (by rw [h]; rfl)
    · right
      cases c1 with
      | nil => simp at e
      | cons c c1' =>
        obtain ⟨g1, g2, g3⟩ := ct_nd_c (A := A) (x := x) (c := c) (cs := c1' ++ c2) h
        refine ⟨by rw [ct_sH_4 hne _ (by omega) (by omega)]; exact g2, ?_⟩
        refine ct_sg_tk (ka := c :: c1') (kb := c2) g1 e.symm (fun j h0 h1 => ?_)
        exact ct_sH_4 hne _ (by omega) (by omega)
  · refine ct_sg_dr (ka := k1 ++ [m]) (kb := k2) (by rw [hk]; simp) hl2.symm (fun j h0 h1 => ?_)
    rw [e2, e3, ct_cp_in h0 (by omega), ct_cp_in h0 (by omega)]
    rw [show 5 * x + ((k1 ++ [m]).length : Int) + j = 5 * x + 3 + j by simp [hl1]]
  · rcases hc with ⟨e, e'⟩ | ⟨e, e'⟩
    · left
      subst e e'
      refine ⟨?_, rfl⟩
      unfold ct_sH
      rw [if_pos (ct_nd_lf.mp (by rw [h]; rfl))]
      show A 4 (6 * y) < 0
      omega
    · right
      have hn : ¬ A 4 (6 * x) < 0 := by
        cases c1 with
        | nil => simp at e
        | cons c c1' => exact (ct_nd_c (A := A) (x := x) (c := c) (cs := c1' ++ c2) h).2.1
      have e4 : ct_sH A x y 4 = ct_cp (A 4) (6 * y) (6 * x + 3) 3 := by
        unfold ct_sH
        rw [if_neg hn]; rfl
      rw [e4]
      have hsg : ct_sg (A 4) (6 * x) ((k1 ++ m :: k2).length + 1) = c1 ++ c2 := by
        cases c1 with
        | nil => simp at e
        | cons c c1' => exact (ct_nd_c (A := A) (x := x) (c := c) (cs := c1' ++ c2) h).1
      have hs2 : ct_sg (ct_cp (A 4) (6 * y) (6 * x + 3) 3) (6 * y) 3 = c2 := by
        refine ct_sg_dr (ka := c1) (kb := c2) hsg e'.symm (fun j h0 h1 => ?_)
        rw [ct_cp_in h0 (by omega), e]
        rfl
      refine ⟨?_, hs2⟩
      cases c2 with
      | nil => simp at e'
      | cons c c2' =>
        simp only [ct_sg] at hs2
        have := (List.cons.inj hs2).1
        have := hr c (by simp)
        omega
  · rw [e2, ct_cp_out (by omega)]; exact hkv.1
  · rw [e3, ct_cp_out (by omega)]; exact hkv.2
/-- what the second half does -/
theorem ct_s2_o {C : Nat → Int → Int} {p i x y q : Int} (hq : q ≠ p) (hi : 0 ≤ i) (hin : i ≤ C 1 p) (hn : C 1 p ≤ 4) : ct_nd (ct_s2 C p i x y) q = ct_nd C q ∧ ct_s2 C p i x y 1 q = C 1 q ∧ ct_s2 C p i x y 4 (6 * q) = C 4 (6 * q) := by
  have a4 : ∀ j, 6 * q ≤ j → j < 6 * q + 6 → ct_s2 C p i x y 4 j = C 4 j := by
    intro j h0 h1
    show ct_up (ct_sR (C 4) (6 * p + (i + 1)) (6 * p + (C 1 p + 1))) (6 * p + (i + 1)) y j = C 4 j
    rw [ct_un (by omega), ct_sR_lo (by omega)]
  refine ⟨ct_nd_cg (ct_un hq) (fun j _ _ => ⟨?_, ?_⟩) a4, ct_un hq, a4 _ (by omega) (by omega)⟩
  · show ct_up (ct_sR (C 2) (5 * p + i) (5 * p + C 1 p)) (5 * p + i) _ j = C 2 j
    rw [ct_un (by omega), ct_sR_lo (by omega)]
  · show ct_up (ct_sR (C 3) (5 * p + i) (5 * p + C 1 p)) (5 * p + i) _ j = C 3 j
    rw [ct_un (by omega), ct_sR_lo (by omega)]
theorem ct_s2_p {C : Nat → Int → Int} {p x y : Int} {ka kb : List ct_KV} {m : ct_KV} {ca cb : List Int} (h : ct_nd C p = (ka ++ kb, ca ++ x :: cb)) (hl : ka.length = ca.length) (hk : C 1 p = ((ka ++ kb).length : Int)) (h4 : (ka ++ kb).length ≤ 4) (hm1 : C 2 (5 * x + 2) = m.1) (hm2 : C 3 (5 * x + 2) = m.2) (hy : 0 ≤ y) :
    ct_nd (ct_s2 C p ka.length x y) p = (ka ++ m :: kb, ca ++ x :: y :: cb) ∧ ct_s2 C p ka.length x y 1 p = ((ka ++ m :: kb).length : Int) := by
  have h1 : (ct_nd C p).1 = ka ++ kb := by rw [h]
  have hlen : (ka ++ kb).length = ka.length + kb.length := by simp
  have b1 : ct_s2 C p ka.length x y 1 p = C 1 p + 1 := ct_us
  have hins := ct_ins_k (A := ct_st C 4 (ct_sR (C 4) (6 * p + (ka.length + 1)) (6 * p + (C 1 p + 1)))) (x := p) (k := m.1) (v := m.2) (ka := ka) (kb := kb) (h1) (by show C 1 p = ((ct_nd C p).1.length : Int); rw [h1]; exact hk) (by show (ct_nd C p).1.length ≤ 4; rw [h1]; exact h4)
  have hins' : ct_sg (fun j => (ct_s2 C p ka.length x y 2 j, ct_s2 C p ka.length x y 3 j)) (5 * p) ((ct_nd C p).1.length + 1) = ka ++ m :: kb := by
    unfold ct_s2
    rw [hm1, hm2]
    exact hins
  have e4 : ct_s2 C p ka.length x y 4 = ct_up (ct_sR (C 4) (6 * p + (ka.length + 1)) (6 * p + (C 1 p + 1))) (6 * p + (ka.length + 1)) y := rfl
  have hcs : ct_sg (C 4) (6 * p) ((ka ++ kb).length + 1) = (ca ++ [x]) ++ cb ∧ ¬ C 4 (6 * p) < 0 ∧ (ka ++ kb).length + 1 = (ca ++ x :: cb).length := by
    cases ca with
    | nil => exact ct_nd_c h
    | cons c ca' =>
      have := ct_nd_c (A := C) (x := p) (c := c) (cs := ca' ++ x :: cb) h
      refine ⟨?_, this.2.1, this.2.2⟩
      rw [this.1]; simp
  have hcl : (ca ++ x :: cb).length = ca.length + cb.length + 1 := by simp; omega
  refine ⟨ct_nd_mk (n := (ct_nd C p).1.length + 1) (by rw [b1, hk, h1]; omega) (by rw [h1]; omega) hins' (Or.inr ⟨?_, ?_⟩), ?_⟩
  · rw [e4, ct_un (by omega), ct_sR_lo (by omega)]; exact hcs.2.1
  · rw [e4, h1]
    have := ct_sg_ins (F := C 4) (F' := ct_up (ct_sR (C 4) (6 * p + (ka.length + 1)) (6 * p + (C 1 p + 1))) (6 * p + (ka.length + 1)) y) (ka := ca ++ [x]) (kb := cb) (e := y) (b := 6 * p) (n := (ka ++ kb).length + 1) hcs.1 (fun j h0 h1 => ?_) ?_ (fun j h0 h1 => ?_)
    · rw [this]; simp
    · simp at h1
      rw [ct_un (by omega), ct_sR_lo (by omega)]
    · simp only [List.length_append, List.length_cons, List.length_nil]
      rw [show ((ca.length + (0 + 1) : Nat) : Int) = ka.length + 1 by omega, ct_us]
    · simp only [List.length_append, List.length_cons, List.length_nil] at h0 h1
      rw [ct_un (by omega), ct_sR_in (by omega) (by omega), show 6 * p + j + 1 - 1 = 6 * p + j by omega]
  · rw [b1, hk]; simp; omega
end
section
/-! ===== 18: a change below the hole, in general ===== -/
theorem ct_Y_mod {A B : Nat → Int → Int} {D : Nat → Nat} {SP CT N R M : List Int} {d : Nat} {fs : List ct_Fr} {p : Int} {W W' : List ct_KV} (h : ct_Y A D SP CT d fs p W) (hA : ct_Ag A B M) (hM : ∀ q, q ∈ M → q ∉ ct_CP (ct_nd A) d fs ∧ q ∉ SP ∧ -128 ≤ B 4 (6 * q)) (hP : (ct_pg (ct_nd B) d p ++ R).Perm (N ++ ct_pg (ct_nd A) d p)) (hN : ∀ q, q ∈ N → 0 ≤ q ∧ q < 100 ∧ q ∉ ct_pg (ct_nd A) d p ∧ B 5 q = 1 ∧ q ∈ M) (hNn : N.Nodup) (hR : ∀ q, q ∈ R → B 5 q = 0) (h5 : ∀ q, q ∉ N → q ∉ R → B 5 q = A 5 q) (h11 : B 11 3 = A 11 3) (hW : ct_CL (ct_nd A) d fs ++ (ct_fl (ct_nd B) d p ++ ct_CR (ct_nd A) d fs) = W') : ct_Y B D SP CT d fs p W' := by
  obtain ⟨z1, z3, z4, z5, z6, z8⟩ := h
  have hnA := List.nodup_append.mp z3
  have hNA : (N ++ ct_pg (ct_nd A) d p).Nodup := by
    rw [List.nodup_append]
    refine ⟨hNn, hnA.1, fun a ha b hb e => ?_⟩
    subst e
    exact (hN a ha).2.2.1 hb
  have hBR := hP.nodup_iff.mpr hNA
  have hBR' := List.nodup_append.mp hBR
  have hcp : ∀ q, q ∈ ct_CP (ct_nd A) d fs → q ∉ N ++ ct_pg (ct_nd A) d p := by
    intro q hq hm
    rcases List.mem_append.mp hm with hm | hm
    · exact (hM q (hN q hm).2.2.2.2).1 hq
    · exact hnA.2.2 q hm q hq rfl
  have hcR : ∀ q, q ∈ ct_CP (ct_nd A) d fs → q ∉ N ∧ q ∉ R := by
    intro q hq
    refine ⟨fun hm => hcp q hq (List.mem_append.mpr (Or.inl hm)), fun hm => hcp q hq (hP.mem_iff.mp (List.mem_append.mpr (Or.inr hm)))⟩
  rw [← hW]
  refine ct_Y_rep ⟨z1, z3, z4, z5, z6, z8⟩ (fun q hq => ?_) h11 ?_ (fun q hq => ?_) (fun q g0 g1 g2 => ?_) ?_
  · have hqM : q ∉ M := fun hm => (hM q hm).1 hq
    have := hA.2 q hqM
    exact ⟨this.1, this.2.2, h5 q (hcR q hq).1 (hcR q hq).2⟩
  · rw [List.nodup_append]
    refine ⟨hBR'.1, hnA.2.1, fun a ha b hb e => ?_⟩
    subst e
    exact hcp a hb (hP.mem_iff.mp (List.mem_append.mpr (Or.inl ha)))
  · have hqR : q ∉ R := fun hm => hBR'.2.2 q hq q hm rfl
    have hq2 := hP.mem_iff.mp (List.mem_append.mpr (Or.inl hq))
    by_cases hqN : q ∈ N
    · have := hN q hqN
      exact ⟨this.1, this.2.1, (hM q this.2.2.2.2).2.2, Or.inl this.2.2.2.1⟩
    · have hqA : q ∈ ct_pg (ct_nd A) d p := by
        rcases List.mem_append.mp hq2 with h | h
        · exact absurd h hqN
        · exact h
      have a := z4 q (List.mem_append.mpr (Or.inl hqA))
      refine ⟨a.1, a.2.1, ?_, ?_⟩
      · by_cases hqM : q ∈ M
        · exact (hM q hqM).2.2
        · rw [(hA.2 q hqM).2.2]; exact a.2.2.1
      · rw [h5 q hqN hqR]; exact a.2.2.2
  · have hqR : q ∉ R := fun hm => g2 (hR q hm)
    by_cases hqN : q ∈ N
    · have := hP.mem_iff.mpr (List.mem_append.mpr (Or.inl hqN) : q ∈ N ++ ct_pg (ct_nd A) d p)
      rcases List.mem_append.mp this with h | h
      · exact List.mem_append.mpr (Or.inl h)
      · exact absurd h hqR
    · rw [h5 q hqN hqR] at g2
      rcases List.mem_append.mp (z5 q g0 g1 g2) with h | h
      · have := hP.mem_iff.mpr (List.mem_append.mpr (Or.inr h) : q ∈ N ++ ct_pg (ct_nd A) d p)
        rcases List.mem_append.mp this with h | h
        · exact List.mem_append.mpr (Or.inl h)
        · exact absurd h hqR
      · exact List.mem_append.mpr (Or.inr h)
  · refine ct_Sx_ag hA (fun q hq => (hM q hq).2.1) (fun q hq => ?_) (fun q => ?_) z8
    · by_cases hqR : q ∈ R
      · rw [hR q hqR, z8.2.2.1 q hq]
      · exact h5 q (fun hm => (hM q (hN q hm).2.2.2.2).2.1 hq) hqR
    · by_cases hqN : q ∈ N
      · have := (hN q hqN).2.2.2.1; omega
      · by_cases hqR : q ∈ R
        · have := hR q hqR; omega
        · rw [h5 q hqN hqR]; exact z8.2.2.2 q
/-- the pages at p: apart from each other -/
theorem ct_pl {A : Nat → Int → Int} {D : Nat → Nat} {SP CT : List Int} {d : Nat} {fs : List ct_Fr} {p x : Int} {W : List ct_KV} {ka kb K : List ct_KV} {ca cb C : List Int} (h : ct_Y A D SP CT (d + 1) fs p W) (hp : ct_nd A p = (ka ++ kb, ca ++ x :: cb)) (hl : ka.length = ca.length) (hx : ct_nd A x = (K, C)) :
    p ≠ x ∧ (∀ q, q ∈ ct_pn (ct_nd A) (d + 1) (ca ++ cb) ++ ct_pn (ct_nd A) d C → q ≠ p ∧ q ≠ x) ∧ (∀ q, q ∈ p :: x :: (ct_pn (ct_nd A) (d + 1) (ca ++ cb) ++ ct_pn (ct_nd A) d C) ↔ q ∈ ct_pg (ct_nd A) (d + 1) p) ∧ (∀ q, q ∈ ct_pg (ct_nd A) (d + 1) p → q ∉ ct_CP (ct_nd A) (d + 1) fs) := by
  obtain ⟨o1, o2, o3⟩ := ct_one (H := ct_nd A) hp hl hx (fun _ _ => rfl)
  have hn := List.nodup_append.mp h.2.1
  have hn2 := o2.nodup_iff.mp hn.1
  rw [List.nodup_cons, List.nodup_cons] at hn2
  refine ⟨fun e => hn2.1 (by rw [e]; simp), fun q hq => ⟨fun e => hn2.1 (e ▸ List.mem_cons_of_mem _ hq), fun e => hn2.2.1 (e ▸ hq)⟩, fun q => o2.mem_iff.symm, fun q hq hc => hn.2.2 q hq q hc rfl⟩
/-- split, the pages: Z at x with five pairs, then Z at p -/
theorem ct_split_Z {A : Nat → Int → Int} {D : Nat → Nat} {SP CT : List Int} {d : Nat} {fs : List ct_Fr} {x p y : Int} {W : List ct_KV} {ka kb : List ct_KV} {ca cb : List Int} {f g : Int → Int} (hz : ct_Z A D SP CT d ((p, (ka, ca), (kb, cb)) :: fs) x W) (h5 : (ct_nd A x).1.length = 5) (hxf : A 5 x = 1) (hpf : A 5 p = 1) (hy0 : 0 ≤ y) (hy1 : y < 100) (hyS : y ∉ SP) (hyW : y ∉ ct_pg (ct_nd A) d x ++ ct_CP (ct_nd A) d ((p, (ka, ca), (kb, cb)) :: fs)) :
    ct_Z (ct_s2 (ct_sH (ct_new A y g f) x y) p ka.length x y) D SP CT (d + 1) fs p W ∧ (ct_nd (ct_s2 (ct_sH (ct_new A y g f) x y) p ka.length x y) p).1.length = ka.length + kb.length + 1 ∧ (∀ q, A 5 q = 1 → ct_s2 (ct_sH (ct_new A y g f) x y) p ka.length x y 5 q = 1) ∧ ct_sH (ct_new A y g f) x y 1 p = ka.length + kb.length ∧ (∀ q, q ∈ SP → ct_nd (ct_s2 (ct_sH (ct_new A y g f) x y) p ka.length x y) q = ct_nd A q ∧ ct_s2 (ct_sH (ct_new A y g f) x y) p ka.length x y 4 (6 * q) = A 4 (6 * q)) := by
  have hzz := hz
  obtain ⟨hY, hnp, hl1, hl2, hl3, hl4, hsib⟩ := ct_Y_up (ct_Z_Y hz)
  obtain ⟨z1, z2, z3, z4, z5, z6, z7, z8⟩ := hz
  have hyW' : y ∉ ct_pg (ct_nd A) (d + 1) p := fun hm => hyW ((ct_up_pg hnp (ct_CP (ct_nd A) (d + 1) fs)).mem_iff.mp (List.mem_append.mpr (Or.inl hm)))
  have hyC : y ∉ ct_CP (ct_nd A) (d + 1) fs := fun hm => hyW ((ct_up_pg hnp (ct_CP (ct_nd A) (d + 1) fs)).mem_iff.mp (List.mem_append.mpr (Or.inr hm)))
  obtain ⟨k1, m, k2, hK, hk1, hk2⟩ := ct_split_at (cs := (ct_nd A x).1) (n := 2) (m := 2) h5
  have hno : ct_no (ct_nd A) d (k1 ++ m :: k2, (ct_nd A x).2) := by rw [← hK]; exact ct_no_sh.mp z2
  obtain ⟨c1, c2, hC, hn1, hn2, hd0, hd1⟩ := ct_no_spl hno
  have hnx : ct_nd A x = (k1 ++ m :: k2, c1 ++ c2) := by rw [← hK, ← hC]
  obtain ⟨e1, e2, e3, e4⟩ := ct_pl hY hnp hl1 hnx
  have hxp : x ∈ ct_pg (ct_nd A) (d + 1) p := (e3 x).mp (by simp)
  have hpp : p ∈ ct_pg (ct_nd A) (d + 1) p := ct_pg_self _ _ _
  have hyx : y ≠ x := fun e => hyW' (e ▸ hxp)
  have hyp : y ≠ p := fun e => hyW' (e ▸ hpp)
  have hA1p : A 1 p = ka.length + kb.length := by
    have hlen : (ct_nd A p).1.length = ka.length + kb.length := by rw [hnp]; simp
    have hlo := ct_lo_1 fs
    have := ct_nd_kc (A := A) (x := p) (by omega) (by omega)
    omega
  have hH1p : ct_sH (ct_new A y g f) x y 1 p = ka.length + kb.length := by
    rw [(ct_sH_o (A := ct_new A y g f) e1 (fun e => hyp e.symm)).2.1]
    show ct_up (A 1) y 0 p = _
    rw [ct_un (fun e => hyp e.symm)]; exact hA1p
  have hxn : ct_nd (ct_new A y g f) x = (k1 ++ m :: k2, c1 ++ c2) := by rw [ct_nd_new (fun e => hyx e.symm)]; exact hnx
  have hcc : (c1 = [] ∧ c2 = []) ∨ (c1.length = 3 ∧ c2.length = 3) := by
    rcases Nat.eq_zero_or_pos d with e | e
    · exact Or.inl (hd0 e)
    · have := hd1 e; exact Or.inr ⟨by omega, by omega⟩
  have hcr : ∀ c, c ∈ c2 → 0 ≤ c := by
    intro c hc
    cases d with
    | zero => rw [(hd0 rfl).2] at hc; simp at hc
    | succ d =>
      refine (z4 c (List.mem_append.mpr (Or.inl ?_))).1
      rw [ct_pn_pg, hnx]
      refine List.mem_cons_of_mem _ ?_
      simp only [ct_pn, List.mem_flatten, List.mem_map]
      exact ⟨_, ⟨c, by simp [hc], rfl⟩, ct_pg_self _ _ _⟩
  obtain ⟨x1, x2, x3, x4⟩ := ct_sH_xy (A := ct_new A y g f) (fun e => hyx e.symm) hxn hk1 hk2 hcc ct_us hcr
  have hpn : ct_nd (ct_sH (ct_new A y g f) x y) p = (ka ++ kb, ca ++ x :: cb) := by
    rw [(ct_sH_o e1 (fun e => hyp e.symm)).1, ct_nd_new (fun e => hyp e.symm)]; exact hnp
  obtain ⟨p1, p2⟩ := ct_s2_p (y := y) hpn hl1 (by rw [hH1p]; simp) (by simp; omega) x3 x4 hy0
  have hso : ∀ q, q ≠ p → ct_nd (ct_s2 (ct_sH (ct_new A y g f) x y) p ka.length x y) q = ct_nd (ct_sH (ct_new A y g f) x y) q ∧ ct_s2 (ct_sH (ct_new A y g f) x y) p ka.length x y 1 q = ct_sH (ct_new A y g f) x y 1 q ∧ ct_s2 (ct_sH (ct_new A y g f) x y) p ka.length x y 4 (6 * q) = ct_sH (ct_new A y g f) x y 4 (6 * q) := fun q hq => ct_s2_o hq (by omega) (by omega) (by omega)
  have hB : ∀ q, q ≠ p → q ≠ x → q ≠ y → ct_nd (ct_s2 (ct_sH (ct_new A y g f) x y) p ka.length x y) q = ct_nd A q ∧ ct_s2 (ct_sH (ct_new A y g f) x y) p ka.length x y 1 q = A 1 q ∧ ct_s2 (ct_sH (ct_new A y g f) x y) p ka.length x y 4 (6 * q) = A 4 (6 * q) := by
    intro q q1 q2 q3
    obtain ⟨a1, a2, a3⟩ := hso q q1
    obtain ⟨b1, b2, b3⟩ := ct_sH_o (A := ct_new A y g f) (x := x) (y := y) q2 q3
    rw [a1, a2, a3, b1, b2, b3]
    refine ⟨ct_nd_new q3, ct_un q3, ct_un (by omega)⟩
  have hBx : ct_nd (ct_s2 (ct_sH (ct_new A y g f) x y) p ka.length x y) x = (k1, c1) := by rw [(hso x (fun e => e1 e.symm)).1]; exact x1
  have hBy : ct_nd (ct_s2 (ct_sH (ct_new A y g f) x y) p ka.length x y) y = (k2, c2) := by rw [(hso y hyp).1]; exact x2
  have hB5 : ct_s2 (ct_sH (ct_new A y g f) x y) p ka.length x y 5 = ct_up (A 5) y 1 := by
    show ct_sH (ct_new A y g f) x y 5 = _
    rw [(ct_sH_23 (A := ct_new A y g f) (x := x) (y := y)).2.2.1]
    rfl
  have hin : ∀ q, q ∈ ct_pn (ct_nd A) (d + 1) (ca ++ cb) ++ (ct_pn (ct_nd A) d c1 ++ ct_pn (ct_nd A) d c2) → q ∈ ct_pn (ct_nd A) (d + 1) (ca ++ cb) ++ ct_pn (ct_nd A) d (c1 ++ c2) := by
    intro q hq
    rw [ct_pn_app (a := c1)]; exact hq
  obtain ⟨t1, t2, t3⟩ := ct_two (G := ct_nd (ct_s2 (ct_sH (ct_new A y g f) x y) p ka.length x y)) (H := ct_nd A) (d := d) p1 hl1 hBx hBy (fun q hq => by
    have hq' := hin q hq
    have := e2 q hq'
    exact (hB q this.1 this.2 (fun e => hyW' (e ▸ (e3 q).mp (List.mem_cons_of_mem _ (List.mem_cons_of_mem _ hq'))))).1)
  obtain ⟨o1, o2, o3⟩ := ct_one (G := ct_nd A) (H := ct_nd A) (d := d) hnp hl1 hnx (fun _ _ => rfl)
  obtain ⟨j1, j2⟩ := ct_no_join (m := m) hn1 hn2
  have hx4 : -128 ≤ A 4 (6 * x) := (z4 x (List.mem_append.mpr (Or.inl (ct_pg_self _ _ _)))).2.2.1
  have hp4 : -128 ≤ A 4 (6 * p) := (z4 p (List.mem_append.mpr (Or.inr (by simp [ct_CP])))).2.2.1
  have hnl : ∀ (q : Int) (E : Nat → Int → Int), E 4 (6 * q) = A 4 (6 * q) → -128 ≤ A 4 (6 * q) → -128 ≤ E 4 (6 * q) := fun q E e h => by omega
  have hs4 : ∀ q, q ≠ y → ct_sH (ct_new A y g f) x y 4 (6 * q) = A 4 (6 * q) := by
    intro q hq
    rw [ct_sH_4 hq _ (by omega) (by omega)]
    exact ct_un (by omega)
  refine ⟨ct_Y_Z (ct_Y_mod (N := [y]) (R := []) (M := [p, x, y]) hY ⟨⟨?_, ?_, fun k hk => ?_⟩, fun q hq => ?_⟩ (fun q hq => ?_) ?_ (fun q hq => ?_) (by simp) (by simp) (fun q hq _ => ?_) ?_ ?_) (t3 hn1 hn2 hsib hl2 (by omega) (by omega) (by omega) (by omega)) (by rw [p2, p1]), by rw [p1]; simp; omega, fun q hq => ?_, hH1p, fun q hq => ?_⟩
  · show ct_sH (ct_new A y g f) x y 7 = _
    rw [(ct_sH_23 (A := ct_new A y g f) (x := x) (y := y)).2.2.2.2.2.2.1]; rfl
  · show ct_sH (ct_new A y g f) x y 10 = _
    rw [(ct_sH_23 (A := ct_new A y g f) (x := x) (y := y)).2.2.2.2.2.2.2]; rfl
  · show ct_sH (ct_new A y g f) x y 11 k = _
    rw [(ct_sH_23 (A := ct_new A y g f) (x := x) (y := y)).2.2.2.2.1]; rfl
  · simp only [List.mem_cons, List.not_mem_nil, or_false, not_or] at hq
    exact hB q hq.1 hq.2.1 hq.2.2
  · simp only [List.mem_cons, List.not_mem_nil, or_false] at hq
    rcases hq with e | e | e
    · subst e
      refine ⟨e4 q hpp, ct_Sx_fr z8 hpf, ?_⟩
      show -128 ≤ ct_up (ct_sR (ct_sH (ct_new A y g f) x y 4) (6 * q + (ka.length + 1)) (6 * q + (ct_sH (ct_new A y g f) x y 1 q + 1))) (6 * q + (ka.length + 1)) y (6 * q)
      rw [ct_un (by omega), ct_sR_lo (by omega), hs4 q (fun e => hyp e.symm)]
      exact hp4
    · subst e
      refine ⟨e4 q hxp, ct_Sx_fr z8 hxf, ?_⟩
      rw [(hso q (fun e => e1 e.symm)).2.2, hs4 q (fun e => hyx e.symm)]
      exact hx4
    · subst e
      refine ⟨hyC, hyS, ?_⟩
      rw [(hso q hyp).2.2]
      unfold ct_sH
      by_cases ee : ct_new A q g f 4 (6 * x) < 0
      · rw [if_pos ee]
        show -128 ≤ ct_up (A 4) (6 * q) (-1) (6 * q)
        rw [ct_us]; decide
      · rw [if_neg ee]
        show -128 ≤ ct_cp (ct_up (A 4) (6 * q) (-1)) (6 * q) (6 * x + 3) 3 (6 * q)
        have hh := ct_cp_in (f := ct_up (A 4) (6 * q) (-1)) (d := 6 * q) (s := 6 * x + 3) (n := 3) (j := 0) (by omega) (by omega)
        rw [Int.add_zero, Int.add_zero, ct_un (by omega)] at hh
        rw [hh]
        rcases hcc with hcc | hcc
        · have hlf : A 4 (6 * x) < 0 := ct_nd_lf.mp (by rw [hnx, hcc.1, hcc.2]; rfl)
          refine absurd ?_ ee
          show ct_up (A 4) (6 * q) (-1) (6 * x) < 0
          rw [ct_un (by omega)]; exact hlf
        · cases c2 with
          | nil => simp at hcc
          | cons c c2' =>
            have := ct_nd_ch (A := A) (x := x) (ca := c1) (c := c) (cb := c2') (by rw [hnx])
            rw [hcc.1] at this
            have hc0 := hcr c (by simp)
            have this' : A 4 (6 * x + 3) = c := this
            omega
  · rw [List.append_nil]
    refine List.Perm.trans t2 ?_
    refine List.Perm.trans ?_ (List.Perm.append_left [y] o2.symm)
    rw [ct_pn_app (a := c1)]
    exact (List.Perm.cons p (List.Perm.swap y x _)).trans (List.Perm.swap y p _)
  · simp only [List.mem_cons, List.not_mem_nil, or_false] at hq
    subst hq
    exact ⟨hy0, hy1, hyW', by rw [hB5]; exact ct_us, by simp⟩
  · simp only [List.mem_cons, List.not_mem_nil, or_false] at hq
    rw [hB5]; exact ct_un hq
  · show ct_sH (ct_new A y g f) x y 11 3 = _
    rw [(ct_sH_23 (A := ct_new A y g f) (x := x) (y := y)).2.2.2.2.1]; rfl
  · rw [t1, ← hY.2.2.2.2.1, o1, j2]
  · rw [hB5]
    by_cases e : q = y
    · rw [e]; exact ct_us
    · rw [ct_un e]; exact hq
  · have a := hB q (fun e => ct_Sx_fr z8 hpf (e ▸ hq)) (fun e => ct_Sx_fr z8 hxf (e ▸ hq)) (fun e => hyS (e ▸ hq))
    exact ⟨a.1, a.2.2⟩
end
section
/-! ===== 19: the root split; insert ===== -/
def ct_nr (C : Nat → Int → Int) (a : Int) (g f : Int → Int) (x : Int) : Nat → Int → Int := ct_st (ct_st (ct_new C a g f) 4 (ct_up (ct_up (C 4) (6 * a) (-1)) (6 * a) x)) 11 (ct_up (C 11) 3 a)
theorem ct_nr_o {C : Nat → Int → Int} {a x q : Int} {g f : Int → Int} (h : q ≠ a) : ct_nd (ct_nr C a g f x) q = ct_nd C q ∧ ct_nr C a g f x 1 q = C 1 q ∧ ct_nr C a g f x 4 (6 * q) = C 4 (6 * q) := by
  have a4 : ∀ j, 6 * q ≤ j → j < 6 * q + 6 → ct_nr C a g f x 4 j = C 4 j := by
    intro j h0 h1
    show ct_up (ct_up (C 4) (6 * a) (-1)) (6 * a) x j = C 4 j
    rw [ct_un (by omega), ct_un (by omega)]
  exact ⟨ct_nd_cg (ct_un h) (fun j _ _ => ⟨rfl, rfl⟩) a4, ct_un h, a4 _ (by omega) (by omega)⟩
theorem ct_nr_a {C : Nat → Int → Int} {a x : Int} {g f : Int → Int} (hx : 0 ≤ x) : ct_nd (ct_nr C a g f x) a = ([], [x]) := by
  have e4 : ct_nr C a g f x 4 (6 * a) = x := ct_us
  refine ct_nd_mk (n := 0) ct_us (by omega) rfl (Or.inr ⟨by rw [e4]; omega, ?_⟩)
  simp only [ct_sg]
  rw [e4]
/-- the pages of a split root, before the new root is made -/
theorem ct_root_C {A : Nat → Int → Int} {D : Nat → Nat} {SP CT : List Int} {d : Nat} {x y : Int} {W : List ct_KV} {f g : Int → Int} (hz : ct_Z A D SP CT d [] x W) (h5 : (ct_nd A x).1.length = 5) (hW : W.length ≤ 25) (hxf : A 5 x = 1) (hy0 : 0 ≤ y) (hy1 : y < 100) (hyS : y ∉ SP) (hyW : y ∉ ct_pg (ct_nd A) d x) :
    ct_Sx (ct_sH (ct_new A y g f) x y) D SP CT ∧ ct_rt (ct_sH (ct_new A y g f) x y) d x ∧ (∀ q, q ∈ ct_pg (ct_nd (ct_sH (ct_new A y g f) x y)) d x → q ∈ y :: ct_pg (ct_nd A) d x) ∧ (∀ q, 0 ≤ q → q < 100 → ct_sH (ct_new A y g f) x y 5 q ≠ 0 → q ∈ y :: ct_pg (ct_nd A) d x) ∧ (∀ q, q ∈ y :: ct_pg (ct_nd A) d x → ct_sH (ct_new A y g f) x y 5 q = 1 ∨ q ∈ CT) ∧ (y :: ct_pg (ct_nd A) d x).length ≤ 39 := by
  have hlen := ct_Z_len hz
  obtain ⟨z1, z2, z3, z4, z5, z6, z7, z8⟩ := hz
  simp only [ct_CP, List.append_nil] at z3 z4 z5 hlen
  obtain ⟨k1, m, k2, hK, hk1, hk2⟩ := ct_split_at (cs := (ct_nd A x).1) (n := 2) (m := 2) h5
  have hno : ct_no (ct_nd A) d (k1 ++ m :: k2, (ct_nd A x).2) := by rw [← hK]; exact ct_no_sh.mp z2
  obtain ⟨c1, c2, hC, hn1, hn2, hd0, hd1⟩ := ct_no_spl hno
  have hnx : ct_nd A x = (k1 ++ m :: k2, c1 ++ c2) := by rw [← hK, ← hC]
  have hyx : y ≠ x := fun e => hyW (e ▸ ct_pg_self _ _ _)
  have hxr := z4 x (ct_pg_self _ _ _)
  have hxn : ct_nd (ct_new A y g f) x = (k1 ++ m :: k2, c1 ++ c2) := by rw [ct_nd_new (fun e => hyx e.symm)]; exact hnx
  have hcc : (c1 = [] ∧ c2 = []) ∨ (c1.length = 3 ∧ c2.length = 3) := by
    rcases Nat.eq_zero_or_pos d with e | e
    · exact Or.inl (hd0 e)
    · have := hd1 e; exact Or.inr ⟨by omega, by omega⟩
  have hpgx : ct_pg (ct_nd A) d x = x :: (ct_pn (ct_nd A) d c1 ++ ct_pn (ct_nd A) d c2) := by rw [ct_pn_pg, hnx, ← ct_pn_app]
  have hcr : ∀ c, c ∈ c2 → 0 ≤ c := by
    intro c hc
    cases d with
    | zero => rw [(hd0 rfl).2] at hc; simp at hc
    | succ d =>
      refine (z4 c ?_).1
      rw [hpgx]
      refine List.mem_cons_of_mem _ (List.mem_append.mpr (Or.inr ?_))
      simp only [ct_pn, List.mem_flatten, List.mem_map]
      exact ⟨_, ⟨c, hc, rfl⟩, ct_pg_self _ _ _⟩
  obtain ⟨x1, x2, x3, x4⟩ := ct_sH_xy (A := ct_new A y g f) (fun e => hyx e.symm) hxn hk1 hk2 hcc ct_us hcr
  obtain ⟨s2, s3, s5, s1, s11, s0, s7, s10⟩ := ct_sH_23 (A := ct_new A y g f) (x := x) (y := y)
  have hB : ∀ q, q ≠ x → q ≠ y → ct_nd (ct_sH (ct_new A y g f) x y) q = ct_nd A q ∧ ct_sH (ct_new A y g f) x y 1 q = A 1 q ∧ ct_sH (ct_new A y g f) x y 4 (6 * q) = A 4 (6 * q) := by
    intro q q2 q3
    obtain ⟨b1, b2, b3⟩ := ct_sH_o (A := ct_new A y g f) (x := x) (y := y) q2 q3
    rw [b1, b2, b3]
    refine ⟨ct_nd_new q3, ct_un q3, ct_un (by omega)⟩
  have hB5 : ct_sH (ct_new A y g f) x y 5 = ct_up (A 5) y 1 := by rw [s5]; rfl
  have hx4 : ct_sH (ct_new A y g f) x y 4 (6 * x) = A 4 (6 * x) := by
    rw [ct_sH_4 (fun e => hyx e.symm) _ (by omega) (by omega)]
    exact ct_un (by omega)
  have hpC : ∀ q, q ∈ ct_pn (ct_nd A) d c1 → q ≠ x ∧ q ≠ y := by
    intro q hq
    rw [hpgx] at z3 hyW
    rw [List.nodup_cons] at z3
    refine ⟨fun e => z3.1 (e ▸ List.mem_append.mpr (Or.inl hq)), fun e => hyW (e ▸ List.mem_cons_of_mem _ (List.mem_append.mpr (Or.inl hq)))⟩
  obtain ⟨n1, n2, n3⟩ := ct_no_cg (H := ct_nd A) (H' := ct_nd (ct_sH (ct_new A y g f) x y)) (d := d) (n := (k1, c1)) (fun q hq => (hB q (hpC q hq).1 (hpC q hq).2).1)
  have hpgC : ct_pg (ct_nd (ct_sH (ct_new A y g f) x y)) d x = x :: ct_pn (ct_nd A) d c1 := by
    rw [ct_pn_pg, x1]
    simp only [n3]
  have hshC : ct_sh (ct_nd (ct_sH (ct_new A y g f) x y)) d x := by rw [ct_no_sh, x1]; exact n1 hn1
  have h1x : ct_sH (ct_new A y g f) x y 1 x = 2 := by rw [s1]; exact ct_us
  have hsub : ∀ q, q ∈ ct_pg (ct_nd (ct_sH (ct_new A y g f) x y)) d x → q ∈ ct_pg (ct_nd A) d x := by
    intro q hq
    rw [hpgC] at hq
    rw [hpgx]
    rcases List.mem_cons.mp hq with e | e
    · rw [e]; simp
    · exact List.mem_cons_of_mem _ (List.mem_append.mpr (Or.inl e))
  refine ⟨?_, Or.inr ⟨ct_sw_sh d x hshC (by rw [h1x, x1, hk1]; rfl) (by rw [x1]; simp [hk1]) (fun q hq => ?_), ?_⟩, fun q hq => List.mem_cons_of_mem _ (hsub q hq), fun q g0 g1 g2 => ?_, fun q hq => ?_, ?_⟩
  · refine ct_Sx_ag (A := A) (M := [x, y]) ⟨⟨by rw [s7]; rfl, by rw [s10]; rfl, fun k hk => by rw [s11]; rfl⟩, fun q hq => ?_⟩ (fun q hq => ?_) (fun q hq => ?_) (fun q => ?_) z8
    · simp only [List.mem_cons, List.not_mem_nil, or_false, not_or] at hq
      exact hB q hq.1 hq.2
    · simp only [List.mem_cons, List.not_mem_nil, or_false] at hq
      rcases hq with e | e
      · rw [e]; exact ct_Sx_fr z8 hxf
      · rw [e]; exact hyS
    · rw [hB5]; exact ct_un (fun e => hyS (e ▸ hq))
    · rw [hB5]
      by_cases e : q = y
      · rw [e, ct_us]; omega
      · rw [ct_un e]; exact z8.2.2.2 q
  · have := z4 q (hsub q hq)
    refine ⟨this.1, this.2.1, ?_⟩
    by_cases e : q = x
    · rw [e, hx4]; exact hxr.2.2.1
    · rw [(hB q e (fun e' => hyW (e' ▸ hsub q hq))).2.2]; exact this.2.2.1
  · have hl : (ct_pg (ct_nd A) d x).length = 1 + ((ct_pn (ct_nd A) d c1).length + (ct_pn (ct_nd A) d c2).length) := by rw [hpgx]; simp; omega
    rw [hpgC]
    simp only [List.length_cons]
    omega
  · rw [hB5] at g2
    by_cases e : q = y
    · rw [e]; simp
    · rw [ct_un e] at g2
      exact List.mem_cons_of_mem _ (z5 q g0 g1 g2)
  · rw [hB5]
    by_cases e : q = y
    · rw [e, ct_us]; exact Or.inl rfl
    · rw [ct_un e]
      rcases List.mem_cons.mp hq with h | h
      · exact absurd h e
      · exact (z4 q h).2.2.2
  · simp only [List.length_cons]
    omega
theorem ct_root_Z {A : Nat → Int → Int} {D : Nat → Nat} {SP CT : List Int} {d : Nat} {x y a : Int} {W : List ct_KV} {f g f' g' : Int → Int} (hz : ct_Z A D SP CT d [] x W) (h5 : (ct_nd A x).1.length = 5) (hxf : A 5 x = 1) (hy0 : 0 ≤ y) (hy1 : y < 100) (hyS : y ∉ SP) (hyW : y ∉ ct_pg (ct_nd A) d x) (ha0 : 0 ≤ a) (ha1 : a < 100) (haS : a ∉ SP) (haW : a ∉ y :: ct_pg (ct_nd A) d x) :
    ct_Z (ct_s2 (ct_nr (ct_sH (ct_new A y g f) x y) a g' f' x) a 0 x y) D SP CT (d + 1) [] a W ∧ (ct_nd (ct_s2 (ct_nr (ct_sH (ct_new A y g f) x y) a g' f' x) a 0 x y) a).1.length = 1 ∧ (∀ q, q ∈ SP → ct_nd (ct_s2 (ct_nr (ct_sH (ct_new A y g f) x y) a g' f' x) a 0 x y) q = ct_nd A q ∧ ct_s2 (ct_nr (ct_sH (ct_new A y g f) x y) a g' f' x) a 0 x y 4 (6 * q) = A 4 (6 * q)) := by
  obtain ⟨z1, z2, z3, z4, z5, z6, z7, z8⟩ := hz
  simp only [ct_CP, List.append_nil] at z3 z4 z5
  obtain ⟨k1, m, k2, hK, hk1, hk2⟩ := ct_split_at (cs := (ct_nd A x).1) (n := 2) (m := 2) h5
  have hno : ct_no (ct_nd A) d (k1 ++ m :: k2, (ct_nd A x).2) := by rw [← hK]; exact ct_no_sh.mp z2
  obtain ⟨c1, c2, hC, hn1, hn2, hd0, hd1⟩ := ct_no_spl hno
  have hnx : ct_nd A x = (k1 ++ m :: k2, c1 ++ c2) := by rw [← hK, ← hC]
  have hyx : y ≠ x := fun e => hyW (e ▸ ct_pg_self _ _ _)
  have hay : a ≠ y := fun e => haW (by rw [e]; simp)
  have hax : a ≠ x := fun e => haW (by rw [e]; exact List.mem_cons_of_mem _ (ct_pg_self _ _ _))
  have hxr := z4 x (ct_pg_self _ _ _)
  have hxn : ct_nd (ct_new A y g f) x = (k1 ++ m :: k2, c1 ++ c2) := by rw [ct_nd_new (fun e => hyx e.symm)]; exact hnx
  have hcc : (c1 = [] ∧ c2 = []) ∨ (c1.length = 3 ∧ c2.length = 3) := by
    rcases Nat.eq_zero_or_pos d with e | e
    · exact Or.inl (hd0 e)
    · have := hd1 e; exact Or.inr ⟨by omega, by omega⟩
  have hpgx : ct_pg (ct_nd A) d x = x :: (ct_pn (ct_nd A) d c1 ++ ct_pn (ct_nd A) d c2) := by rw [ct_pn_pg, hnx, ← ct_pn_app]
  have hcr : ∀ c, c ∈ c2 → 0 ≤ c := by
    intro c hc
    cases d with
    | zero => rw [(hd0 rfl).2] at hc; simp at hc
    | succ d =>
      refine (z4 c ?_).1
      rw [hpgx]
      refine List.mem_cons_of_mem _ (List.mem_append.mpr (Or.inr ?_))
      simp only [ct_pn, List.mem_flatten, List.mem_map]
      exact ⟨_, ⟨c, hc, rfl⟩, ct_pg_self _ _ _⟩
  obtain ⟨x1, x2, x3, x4⟩ := ct_sH_xy (A := ct_new A y g f) (fun e => hyx e.symm) hxn hk1 hk2 hcc ct_us hcr
  obtain ⟨s2, s3, s5, s1, s11, s0, s7, s10⟩ := ct_sH_23 (A := ct_new A y g f) (x := x) (y := y)
  have hna : ct_nd (ct_nr (ct_sH (ct_new A y g f) x y) a g' f' x) a = ([] ++ [], [] ++ x :: []) := ct_nr_a hxr.1
  have h1a : ct_nr (ct_sH (ct_new A y g f) x y) a g' f' x 1 a = 0 := ct_us
  obtain ⟨p1, p2⟩ := ct_s2_p (C := ct_nr (ct_sH (ct_new A y g f) x y) a g' f' x) (p := a) (x := x) (y := y) (ka := []) (kb := []) (ca := []) (cb := []) (m := m) hna rfl (by rw [h1a]; rfl) (by simp) x3 x4 hy0
  have hso : ∀ q, q ≠ a → ct_nd (ct_s2 (ct_nr (ct_sH (ct_new A y g f) x y) a g' f' x) a 0 x y) q = ct_nd (ct_sH (ct_new A y g f) x y) q ∧ ct_s2 (ct_nr (ct_sH (ct_new A y g f) x y) a g' f' x) a 0 x y 1 q = ct_sH (ct_new A y g f) x y 1 q ∧ ct_s2 (ct_nr (ct_sH (ct_new A y g f) x y) a g' f' x) a 0 x y 4 (6 * q) = ct_sH (ct_new A y g f) x y 4 (6 * q) := by
    intro q hq
    obtain ⟨a1, a2, a3⟩ := ct_s2_o (C := ct_nr (ct_sH (ct_new A y g f) x y) a g' f' x) (p := a) (i := 0) (x := x) (y := y) hq (by omega) (by omega) (by omega)
    obtain ⟨b1, b2, b3⟩ := ct_nr_o (C := ct_sH (ct_new A y g f) x y) (x := x) (g := g') (f := f') hq
    rw [a1, a2, a3, b1, b2, b3]
    exact ⟨rfl, rfl, rfl⟩
  have hB : ∀ q, q ≠ a → q ≠ x → q ≠ y → ct_nd (ct_s2 (ct_nr (ct_sH (ct_new A y g f) x y) a g' f' x) a 0 x y) q = ct_nd A q ∧ ct_s2 (ct_nr (ct_sH (ct_new A y g f) x y) a g' f' x) a 0 x y 1 q = A 1 q ∧ ct_s2 (ct_nr (ct_sH (ct_new A y g f) x y) a g' f' x) a 0 x y 4 (6 * q) = A 4 (6 * q) := by
    intro q q1 q2 q3
    obtain ⟨a1, a2, a3⟩ := hso q q1
    obtain ⟨b1, b2, b3⟩ := ct_sH_o (A := ct_new A y g f) (x := x) (y := y) q2 q3
    rw [a1, a2, a3, b1, b2, b3]
    refine ⟨ct_nd_new q3, ct_un q3, ct_un (by omega)⟩
  have hBx : ct_nd (ct_s2 (ct_nr (ct_sH (ct_new A y g f) x y) a g' f' x) a 0 x y) x = (k1, c1) := by rw [(hso x (fun e => hax e.symm)).1]; exact x1
  have hBy : ct_nd (ct_s2 (ct_nr (ct_sH (ct_new A y g f) x y) a g' f' x) a 0 x y) y = (k2, c2) := by rw [(hso y (fun e => hay e.symm)).1]; exact x2
  have hB5 : ct_s2 (ct_nr (ct_sH (ct_new A y g f) x y) a g' f' x) a 0 x y 5 = ct_up (ct_up (A 5) y 1) a 1 := by
    show ct_up (ct_sH (ct_new A y g f) x y 5) a 1 = _
    rw [s5]; rfl
  have hB11 : ct_s2 (ct_nr (ct_sH (ct_new A y g f) x y) a g' f' x) a 0 x y 11 = ct_up (A 11) 3 a := by
    show ct_up (ct_sH (ct_new A y g f) x y 11) 3 a = _
    rw [s11]; rfl
  have hmemx : ∀ q, q ∈ ct_pn (ct_nd A) d c1 ++ ct_pn (ct_nd A) d c2 → q ≠ a ∧ q ≠ x ∧ q ≠ y := by
    intro q hq
    have hqx : q ∈ ct_pg (ct_nd A) d x := by rw [hpgx]; exact List.mem_cons_of_mem _ hq
    refine ⟨fun e => haW (e ▸ List.mem_cons_of_mem _ hqx), fun e => ?_, fun e => hyW (e ▸ hqx)⟩
    rw [hpgx, List.nodup_cons] at z3
    exact z3.1 (e ▸ hq)
  obtain ⟨t1, t2, t3⟩ := ct_two (G := ct_nd (ct_s2 (ct_nr (ct_sH (ct_new A y g f) x y) a g' f' x) a 0 x y)) (H := ct_nd A) (d := d) p1 rfl hBx hBy (fun q hq => by
    simp only [List.append_nil, ct_pn_nil, List.nil_append] at hq
    have := hmemx q hq
    exact (hB q this.1 this.2.1 this.2.2).1)
  obtain ⟨j1, j2⟩ := ct_no_join (m := m) hn1 hn2
  simp only [List.append_nil, ct_pn_nil, List.nil_append] at t2
  have hperm : (ct_pg (ct_nd (ct_s2 (ct_nr (ct_sH (ct_new A y g f) x y) a g' f' x) a 0 x y)) (d + 1) a).Perm (a :: y :: ct_pg (ct_nd A) d x) := by
    refine List.Perm.trans t2 ?_
    rw [hpgx]
    exact List.Perm.cons a (List.Perm.swap y x _)
  have hs4 : ∀ q, q ≠ y → ct_sH (ct_new A y g f) x y 4 (6 * q) = A 4 (6 * q) := by
    intro q hq
    rw [ct_sH_4 hq _ (by omega) (by omega)]
    exact ct_un (by omega)
  have hr4 : ∀ q, q ∈ a :: y :: ct_pg (ct_nd A) d x → 0 ≤ q ∧ q < 100 ∧ -128 ≤ ct_s2 (ct_nr (ct_sH (ct_new A y g f) x y) a g' f' x) a 0 x y 4 (6 * q) ∧ (ct_s2 (ct_nr (ct_sH (ct_new A y g f) x y) a g' f' x) a 0 x y 5 q = 1 ∨ q ∈ CT) := by
    intro q hq
    rw [hB5]
    by_cases ea : q = a
    · subst ea
      refine ⟨ha0, ha1, ?_, Or.inl ct_us⟩
      show -128 ≤ ct_up (ct_sR (ct_up (ct_up (ct_sH (ct_new A y g f) x y 4) (6 * q) (-1)) (6 * q) x) (6 * q + (0 + 1)) (6 * q + (ct_nr (ct_sH (ct_new A y g f) x y) q g' f' x 1 q + 1))) (6 * q + (0 + 1)) y (6 * q)
      rw [ct_un (by omega), ct_sR_lo (by omega), ct_us]
      omega
    · rw [ct_un ea]
      by_cases ey : q = y
      · subst ey
        refine ⟨hy0, hy1, ?_, Or.inl ct_us⟩
        rw [(hso q ea).2.2]
        unfold ct_sH
        by_cases ee : ct_new A q g f 4 (6 * x) < 0
        · rw [if_pos ee]
          show -128 ≤ ct_up (A 4) (6 * q) (-1) (6 * q)
          rw [ct_us]; decide
        · rw [if_neg ee]
          show -128 ≤ ct_cp (ct_up (A 4) (6 * q) (-1)) (6 * q) (6 * x + 3) 3 (6 * q)
          have hh := ct_cp_in (f := ct_up (A 4) (6 * q) (-1)) (d := 6 * q) (s := 6 * x + 3) (n := 3) (j := 0) (by omega) (by omega)
          rw [Int.add_zero, Int.add_zero, ct_un (by omega)] at hh
          rw [hh]
          rcases hcc with hcc | hcc
          · have hlf : A 4 (6 * x) < 0 := ct_nd_lf.mp (by rw [hnx, hcc.1, hcc.2]; rfl)
            refine absurd ?_ ee
            show ct_up (A 4) (6 * q) (-1) (6 * x) < 0
            rw [ct_un (by omega)]; exact hlf
          · cases c2 with
            | nil => simp at hcc
            | cons c c2' =>
              have := ct_nd_ch (A := A) (x := x) (ca := c1) (c := c) (cb := c2') (by rw [hnx])
              rw [hcc.1] at this
              have hc0 := hcr c (by simp)
              have this' : A 4 (6 * x + 3) = c := this
              omega
      · rw [ct_un ey]
        have hqx : q ∈ ct_pg (ct_nd A) d x := by
          rcases List.mem_cons.mp hq with h | h
          · exact absurd h ea
          · rcases List.mem_cons.mp h with h | h
            · exact absurd h ey
            · exact h
        have := z4 q hqx
        refine ⟨this.1, this.2.1, ?_, this.2.2.2⟩
        rw [(hso q ea).2.2, hs4 q ey]
        exact this.2.2.1
  refine ⟨⟨?_, t3 hn1 hn2 (by simp) rfl (by omega) (by omega) (by omega) (by omega), ?_, ?_, ?_, ?_, ?_, ?_⟩, ?_, fun q hq => ?_⟩
  · simp only [ct_Cx]; rw [hB11]; exact ct_us.symm
  · simp only [ct_CP, List.append_nil]
    rw [hperm.nodup_iff, List.nodup_cons, List.nodup_cons]
    exact ⟨haW, hyW, z3⟩
  · intro q hq
    simp only [ct_CP, List.append_nil] at hq
    exact hr4 q (hperm.mem_iff.mp hq)
  · intro q g0 g1 g2
    simp only [ct_CP, List.append_nil]
    rw [hperm.mem_iff]
    rw [hB5] at g2
    by_cases ea : q = a
    · rw [ea]; simp
    · rw [ct_un ea] at g2
      by_cases ey : q = y
      · rw [ey]; simp
      · rw [ct_un ey] at g2
        exact List.mem_cons_of_mem _ (List.mem_cons_of_mem _ (z5 q g0 g1 g2))
  · rw [← z6, t1, ct_nf_fl (x := x), hnx, j2]
    simp [ct_CL, ct_CR, ct_zl, ct_zr]
  · have p1' : (ct_nd (ct_s2 (ct_nr (ct_sH (ct_new A y g f) x y) a g' f' x) a 0 x y) a).1 = [m] := congrArg Prod.fst p1
    rw [p1']
    exact p2
  · refine ct_Sx_ag (A := A) (M := [a, x, y]) ⟨⟨?_, ?_, fun k hk => ?_⟩, fun q hq => ?_⟩ (fun q hq => ?_) (fun q hq => ?_) (fun q => ?_) z8
    · show ct_sH (ct_new A y g f) x y 7 = _
      rw [s7]; rfl
    · show ct_sH (ct_new A y g f) x y 10 = _
      rw [s10]; rfl
    · rw [hB11]; exact ct_un hk
    · simp only [List.mem_cons, List.not_mem_nil, or_false, not_or] at hq
      exact hB q hq.1 hq.2.1 hq.2.2
    · simp only [List.mem_cons, List.not_mem_nil, or_false] at hq
      rcases hq with e | e | e
      · rw [e]; exact haS
      · rw [e]; exact ct_Sx_fr z8 hxf
      · rw [e]; exact hyS
    · have qa : q ≠ a := fun e => haS (e ▸ hq)
      have qy : q ≠ y := fun e => hyS (e ▸ hq)
      rw [hB5, ct_un qa, ct_un qy]
    · rw [hB5]
      by_cases ea : q = a
      · rw [ea, ct_us]; omega
      · rw [ct_un ea]
        by_cases ey : q = y
        · rw [ey, ct_us]; omega
        · rw [ct_un ey]; exact z8.2.2.2 q
  · have p1' : (ct_nd (ct_s2 (ct_nr (ct_sH (ct_new A y g f) x y) a g' f' x) a 0 x y) a).1 = [m] := congrArg Prod.fst p1
    rw [p1']; rfl
  · have a := hB q (fun e => haS (e ▸ hq)) (fun e => ct_Sx_fr z8 hxf (e ▸ hq)) (fun e => hyS (e ▸ hq))
    exact ⟨a.1, a.2.2⟩
end
section
/-! ===== 20: the walks of split and insert ===== -/
theorem ct_sH_oth {A : Nat → Int → Int} {x y : Int} : ct_sH A x y 8 = A 8 ∧ ct_sH A x y 9 = A 9 ∧ ct_sH A x y 12 = A 12 ∧ ct_sH A x y 13 = A 13 := by
  unfold ct_sH
  by_cases e : A 4 (6 * x) < 0
  · rw [if_pos e]; exact ⟨rfl, rfl, rfl, rfl⟩
  · rw [if_neg e]; exact ⟨rfl, rfl, rfl, rfl⟩
theorem ct_split_109n {post : St1 → Prop} {E : Nat → Int → Int} {L x y : Int} (hL1 : 1 ≤ L) (hL8 : L ≤ 7) (hx0 : 0 ≤ x) (hx1 : x < 100) (hy0 : 0 ≤ y) (hy1 : y < 100) (hp0 : 0 ≤ E 14 (L - 1)) (hp1 : E 14 (L - 1) < 100) (hi0 : 0 ≤ E 15 (L - 1)) (hi1 : E 15 (L - 1) < 100) (hp : wX_split_161 post (ct_i x) (ct_i y) (ct_i (E 14 (L - 1))) (ct_i (E 15 (L - 1))) (ct_i (E 0 0)) (ct_c ((ct_s1 E x y) 1)) (ct_c ((ct_s1 E x y) 2)) (ct_a ((ct_s1 E x y) 3)) (ct_c ((ct_s1 E x y) 4)) (ct_a ((ct_s1 E x y) 5)) (ct_a ((ct_s1 E x y) 6)) (ct_c ((ct_s1 E x y) 7)) (ct_c ((ct_s1 E x y) 8)) (ct_a ((ct_s1 E x y) 9)) (ct_a ((ct_s1 E x y) 10)) (ct_c ((ct_s1 E x y) 11)) (ct_c ((ct_s1 E x y) 12)) (ct_a ((ct_s1 E x y) 13)) (ct_c ((ct_s1 E x y) 14)) (ct_c ((ct_s1 E x y) 15)) (ct_c ((ct_s1 E x y) 16))) : wX_split_109 post (ct_i L) (ct_i x) (ct_i y) (ct_i (E 0 0)) (ct_c (E 1)) (ct_c (E 2)) (ct_a (E 3)) (ct_c (E 4)) (ct_a (E 5)) (ct_a (E 6)) (ct_c (E 7)) (ct_c (E 8)) (ct_a (E 9)) (ct_a (E 10)) (ct_c (E 11)) (ct_c (E 12)) (ct_a (E 13)) (ct_c (E 14)) (ct_c (E 15)) (ct_c (E 16)) := by
  have em : ct_i L - 1 = ct_i (L - 1) := by rw [ct_l1, ct_sub]
  have hne : ¬ ct_i L = 0 := by rw [ct_l0, ct_eq (by omega) (by omega) (by omega) (by omega)]; omega
  unfold wX_split_109
  refine ⟨ct_in hy0 (by omega) (by decide), nm_r (e' := ct_c (ct_up (E 1) y 2)) (ct_wci (v := 2) hy0 (by omega) (by decide) (by decide)) ⟨ct_in hx0 (by omega) (by decide), nm_r (e' := ct_c (ct_up (ct_up (E 1) y 2) x 2)) (ct_wci (v := 2) hx0 (by omega) (by decide) (by decide)) ?_⟩⟩
  refine br_f hne ?_
  rw [em]
  refine ⟨ct_in (by omega) (by omega) (by decide), ?_⟩
  rw [ct_rc (by omega) (by omega), ct_bI (by omega) (by omega)]
  unfold wX_split_143
  refine br_f hne ?_
  rw [em]
  refine ⟨ct_in (by omega) (by omega) (by decide), ?_⟩
  rw [ct_rc (by omega) (by omega), ct_bI (by omega) (by omega)]
  exact hp
theorem ct_newRoot {post : Int32 → St1 → Prop} {C : Nat → Int → Int} {D : Nat → Nat} {SP CT WP : List Int} {dw : Nat} {x : Int} (hS : ct_Sx C D SP CT) (hrt : ct_rt C dw (C 11 3)) (hWP : ∀ q, 0 ≤ C 11 3 → q ∈ ct_pg (ct_nd C) dw (C 11 3) → q ∈ WP) (hF : ∀ q, 0 ≤ q → q < 100 → C 5 q ≠ 0 → q ∈ WP) (hO : ∀ q, q ∈ WP → C 5 q = 1 ∨ q ∈ CT) (hlen : WP.length ≤ 39)
    (hp : ∀ a f g, 0 ≤ a → a < 100 → a ∉ SP → a ∉ WP → post (ct_i a) (ct_lf (ct_nr C a g f x))) : wpX_newRoot post (ct_lf C) (ct_i x) := by
  unfold wpX_newRoot
  refine ct_newP hS hrt hWP hF hO hlen (fun a f g h0 h1 h2 h3 h4 => ?_)
  have e6 : (6 : Int32) * ct_i a = ct_i (6 * a) := by rw [ct_l6, ct_mul]
  rw [e6]
  refine ⟨ct_in (by omega) (by omega) (by decide), nm_r (e' := ct_c (ct_up (ct_up (C 4) (6 * a) (-1)) (6 * a) x)) (by rw [ct_tb]; exact ct_wc (by omega) (by omega)) (nm_r (e' := ct_c (ct_up (C 11) 3 a)) (by rw [ct_tb]; exact ct_wc3 _ _) ?_)⟩
  exact hp a f g h0 h1 h2 h3
theorem ct_split {post : St1 → Prop} {A : Nat → Int → Int} {D : Nat → Nat} {SP CT : List Int} {d : Nat} {fs : List ct_Fr} {x p n : Int} {W : List ct_KV} {ka kb : List ct_KV} {ca cb : List Int} {f g : Int → Int} (hz : ct_Z A D SP CT d ((p, (ka, ca), (kb, cb)) :: fs) x W) (h5 : (ct_nd A x).1.length = 5) (hW : W.length ≤ 25) (hxf : A 5 x = 1) (hpf : A 5 p = 1) (hw : ct_Wy f g ((p, (ka, ca), (kb, cb)) :: fs)) (hfx : f ((fs.length : Int) + 1) = x) (h7 : fs.length ≤ 6)
    (hp : ∀ B, ct_Z B D SP CT (d + 1) fs p W → (ct_nd B p).1.length = ka.length + kb.length + 1 → (∀ q, A 5 q = 1 → B 5 q = 1) → ct_Ot SP A B → post (ct_lf (ct_wy B n f g))) : wpX_split post (ct_lf (ct_wy A n f g)) (ct_i ((fs.length : Int) + 1)) := by
  have hxW : x ∈ ct_pg (ct_nd A) d x ++ ct_CP (ct_nd A) d ((p, (ka, ca), (kb, cb)) :: fs) := List.mem_append.mpr (Or.inl (ct_pg_self _ _ _))
  have hpW : p ∈ ct_pg (ct_nd A) d x ++ ct_CP (ct_nd A) d ((p, (ka, ca), (kb, cb)) :: fs) := List.mem_append.mpr (Or.inr (by simp [ct_CP]))
  have hxr := hz.2.2.2.1 x hxW
  have hpr := hz.2.2.2.1 p hpW
  have hlk := hz.1
  simp only [ct_Cx] at hlk
  have hno := ct_no_sh.mp hz.2.1
  have hpx : p ≠ x := by
    intro e
    have := (List.nodup_append.mp hz.2.2.1).2.2 x (ct_pg_self _ _ _) p (by simp [ct_CP])
    exact this e.symm
  have hb : -128 ≤ A 4 (6 * x) ∧ A 4 (6 * x) < 128 := by
    refine ⟨hxr.2.2.1, ?_⟩
    cases hc : (ct_nd A x).2 with
    | nil => have := ct_nd_lf.mp hc; omega
    | cons c cs =>
      have e := ct_nd_ch (A := A) (x := x) (ca := []) (by simpa using hc)
      cases d with
      | zero => rw [ct_no] at hno; rw [hc] at hno; simp at hno
      | succ d =>
        have := hz.2.2.2.1 c (List.mem_append.mpr (Or.inl (by
          simp only [ct_pg, hc, List.mem_cons, List.mem_flatten, List.mem_map]
          exact Or.inr ⟨_, ⟨c, Or.inl rfl, rfl⟩, ct_pg_self _ _ _⟩)))
        simp at e
        omega
  unfold wpX_split
  refine ⟨ct_in (by omega) (by omega) (by decide), nm_r (e' := ct_i x) ?_ ?_⟩
  · show ct_c f (ct_i ((fs.length : Int) + 1)).toNatClampNeg = _
    rw [ct_rc (by omega) (by omega), hfx, ct_bI (by omega) (by omega)]
  refine ct_Z_new (A := ct_wy A n f g) (x := x) hz (by show 1 ≤ (ct_nd A x).1.length; omega) (by show (ct_nd A x).1.length ≤ 5; omega) hW (fun y f' g' hy0 hy1 hyS hyW hy5 => ?_)
  have hyx : x ≠ y := fun e => hyW (e ▸ hxW)
  have hyp : p ≠ y := fun e => hyW (e ▸ hpW)
  obtain ⟨r1, r2, r3, r4, r5⟩ := ct_split_Z (g := g') (f := f') hz h5 hxf hpf hy0 hy1 hyS hyW
  have hfin := hp _ r1 r2 r3 (by
    obtain ⟨s2, s3, s5, s1, s11, s0, s7, s10⟩ := ct_sH_23 (A := ct_new A y g' f') (x := x) (y := y)
    have hoth := ct_sH_oth (A := ct_new A y g' f') (x := x) (y := y)
    exact ⟨⟨s7, hoth.1, hoth.2.1, s10, hoth.2.2.1, hoth.2.2.2, fun k hk => by show ct_sH (ct_new A y g' f') x y 11 k = _; rw [s11]; rfl⟩, r5⟩)
  have hfp : f (fs.length : Int) = p := hw.1
  have hgp : g (fs.length : Int) = (ka.length : Int) := hw.2.1
  have e4x : ct_new A y g' f' 4 (6 * x) = A 4 (6 * x) := ct_un (by omega)
  refine ⟨3, ?_⟩
  have key : ∀ E : Nat → Int → Int, ct_s1 E x y = ct_sH (ct_new A y g' f') x y → wX_split_109 post (ct_i ((fs.length : Int) + 1)) (ct_i x) (ct_i y) (ct_i n) (ct_c ((ct_wy E n f g) 1)) (ct_c ((ct_wy E n f g) 2)) (ct_a ((ct_wy E n f g) 3)) (ct_c ((ct_wy E n f g) 4)) (ct_a ((ct_wy E n f g) 5)) (ct_a ((ct_wy E n f g) 6)) (ct_c ((ct_wy E n f g) 7)) (ct_c ((ct_wy E n f g) 8)) (ct_a ((ct_wy E n f g) 9)) (ct_a ((ct_wy E n f g) 10)) (ct_c ((ct_wy E n f g) 11)) (ct_c ((ct_wy E n f g) 12)) (ct_a ((ct_wy E n f g) 13)) (ct_c ((ct_wy E n f g) 14)) (ct_c ((ct_wy E n f g) 15)) (ct_c ((ct_wy E n f g) 16)) := by
    intro E hE
    refine ct_split_109n (E := ct_wy E n f g) (by omega) (by omega) hxr.1 hxr.2.1 hy0 hy1 ?_ ?_ ?_ ?_ ?_
    · show 0 ≤ f ((fs.length : Int) + 1 - 1)
      rw [show (fs.length : Int) + 1 - 1 = fs.length by omega, hfp]; exact hpr.1
    · show f ((fs.length : Int) + 1 - 1) < 100
      rw [show (fs.length : Int) + 1 - 1 = fs.length by omega, hfp]; exact hpr.2.1
    · show 0 ≤ g ((fs.length : Int) + 1 - 1)
      rw [show (fs.length : Int) + 1 - 1 = fs.length by omega, hgp]; omega
    · show g ((fs.length : Int) + 1 - 1) < 100
      rw [show (fs.length : Int) + 1 - 1 = fs.length by omega, hgp]; omega
    · show wX_split_161 post (ct_i x) (ct_i y) (ct_i (f ((fs.length : Int) + 1 - 1))) (ct_i (g ((fs.length : Int) + 1 - 1))) (ct_i n) (ct_c ((ct_wy (ct_s1 E x y) n f g) 1)) (ct_c ((ct_wy (ct_s1 E x y) n f g) 2)) (ct_a ((ct_wy (ct_s1 E x y) n f g) 3)) (ct_c ((ct_wy (ct_s1 E x y) n f g) 4)) (ct_a ((ct_wy (ct_s1 E x y) n f g) 5)) (ct_a ((ct_wy (ct_s1 E x y) n f g) 6)) (ct_c ((ct_wy (ct_s1 E x y) n f g) 7)) (ct_c ((ct_wy (ct_s1 E x y) n f g) 8)) (ct_a ((ct_wy (ct_s1 E x y) n f g) 9)) (ct_a ((ct_wy (ct_s1 E x y) n f g) 10)) (ct_c ((ct_wy (ct_s1 E x y) n f g) 11)) (ct_c ((ct_wy (ct_s1 E x y) n f g) 12)) (ct_a ((ct_wy (ct_s1 E x y) n f g) 13)) (ct_c ((ct_wy (ct_s1 E x y) n f g) 14)) (ct_c ((ct_wy (ct_s1 E x y) n f g) 15)) (ct_c ((ct_wy (ct_s1 E x y) n f g) 16))
      rw [show (fs.length : Int) + 1 - 1 = fs.length by omega, hfp, hgp, hE]
      refine ct_split_161 (A := ct_wy (ct_sH (ct_new A y g' f') x y) n f g) hxr.1 hxr.2.1 hy0 hy1 hpr.1 hpr.2.1 hpx (by omega) ?_ ?_ hfin
      · show (ka.length : Int) ≤ ct_sH (ct_new A y g' f') x y 1 p
        rw [r4]; omega
      · show ct_sH (ct_new A y g' f') x y 1 p ≤ 4
        rw [r4]; omega
  have := ct_split_15 (post := post) (A := ct_wy (ct_new A y g' f') n f g) (L := (fs.length : Int) + 1) hxr.1 hxr.2.1 hy0 hy1 hyx (by show -128 ≤ ct_new A y g' f' 4 (6 * x) ∧ ct_new A y g' f' 4 (6 * x) < 128; rw [e4x]; exact hb)
    (fun hlf => key (ct_sk (ct_new A y g' f') x y 2) (by unfold ct_sH; rw [if_pos (show ct_new A y g' f' 4 (6 * x) < 0 from hlf)]))
    (fun hlf => key (ct_sc (ct_sk (ct_new A y g' f') x y 2) x y 3) (by unfold ct_sH; rw [if_neg (show ¬ ct_new A y g' f' 4 (6 * x) < 0 from hlf)])) 2 0 (by omega) (by omega)
  unfold ct_sk at this
  rw [ct_cp_0, ct_cp_0] at this
  exact this
theorem ct_split0 {post : St1 → Prop} {A : Nat → Int → Int} {D : Nat → Nat} {SP CT : List Int} {d : Nat} {x n : Int} {W : List ct_KV} {f g : Int → Int} (hz : ct_Z A D SP CT d [] x W) (h5 : (ct_nd A x).1.length = 5) (hW : W.length ≤ 25) (hxf : A 5 x = 1) (hfx : f 0 = x)
    (hp : ∀ B a, ct_Z B D SP CT (d + 1) [] a W → (ct_nd B a).1.length = 1 → ct_Ot SP A B → post (ct_lf (ct_wy B n f g))) : wpX_split post (ct_lf (ct_wy A n f g)) 0 := by
  have hxW : x ∈ ct_pg (ct_nd A) d x ++ ct_CP (ct_nd A) d [] := List.mem_append.mpr (Or.inl (ct_pg_self _ _ _))
  have hxr := hz.2.2.2.1 x hxW
  have hno := ct_no_sh.mp hz.2.1
  have hr : A 11 3 = x := by
    have := hz.1
    simp only [ct_Cx] at this
    exact this.symm
  have hb : -128 ≤ A 4 (6 * x) ∧ A 4 (6 * x) < 128 := by
    refine ⟨hxr.2.2.1, ?_⟩
    cases hc : (ct_nd A x).2 with
    | nil => have := ct_nd_lf.mp hc; omega
    | cons c cs =>
      have e := ct_nd_ch (A := A) (x := x) (ca := []) (by simpa using hc)
      cases d with
      | zero => rw [ct_no] at hno; rw [hc] at hno; simp at hno
      | succ d =>
        have := hz.2.2.2.1 c (List.mem_append.mpr (Or.inl (by
          simp only [ct_pg, hc, List.mem_cons, List.mem_flatten, List.mem_map]
          exact Or.inr ⟨_, ⟨c, Or.inl rfl, rfl⟩, ct_pg_self _ _ _⟩)))
        simp at e
        omega
  unfold wpX_split
  refine ⟨vp_in_iff.mpr (by decide), nm_r (e' := ct_i x) ?_ ?_⟩
  · show ct_b (f 0) = _
    rw [hfx, ct_bI (by omega) (by omega)]
  refine ct_Z_new (A := ct_wy A n f g) (x := x) hz (by show 1 ≤ (ct_nd A x).1.length; omega) (by show (ct_nd A x).1.length ≤ 5; omega) hW (fun y f' g' hy0 hy1 hyS hyW hy5 => ?_)
  have hyW' : y ∉ ct_pg (ct_nd A) d x := fun h => hyW (List.mem_append.mpr (Or.inl h))
  have hyx : x ≠ y := fun e => hyW (e ▸ hxW)
  obtain ⟨q1, q2, q3, q4, q5, q6⟩ := ct_root_C (g := g') (f := f') hz h5 hW hxf hy0 hy1 hyS hyW'
  have e4x : ct_new A y g' f' 4 (6 * x) = A 4 (6 * x) := ct_un (by omega)
  obtain ⟨s2, s3, s5, s1, s11, s0, s7, s10⟩ := ct_sH_23 (A := ct_new A y g' f') (x := x) (y := y)
  have h113 : ct_sH (ct_new A y g' f') x y 11 3 = x := by rw [s11]; exact hr
  refine ⟨3, ?_⟩
  have key : ∀ E : Nat → Int → Int, ct_s1 E x y = ct_sH (ct_new A y g' f') x y → wX_split_109 post (ct_i 0) (ct_i x) (ct_i y) (ct_i n) (ct_c ((ct_wy E n f g) 1)) (ct_c ((ct_wy E n f g) 2)) (ct_a ((ct_wy E n f g) 3)) (ct_c ((ct_wy E n f g) 4)) (ct_a ((ct_wy E n f g) 5)) (ct_a ((ct_wy E n f g) 6)) (ct_c ((ct_wy E n f g) 7)) (ct_c ((ct_wy E n f g) 8)) (ct_a ((ct_wy E n f g) 9)) (ct_a ((ct_wy E n f g) 10)) (ct_c ((ct_wy E n f g) 11)) (ct_c ((ct_wy E n f g) 12)) (ct_a ((ct_wy E n f g) 13)) (ct_c ((ct_wy E n f g) 14)) (ct_c ((ct_wy E n f g) 15)) (ct_c ((ct_wy E n f g) 16)) := by
    intro E hE
    unfold wX_split_109
    refine ⟨ct_in hy0 (by omega) (by decide), nm_r (e' := ct_c (ct_up (E 1) y 2)) (ct_wci (v := 2) hy0 (by omega) (by decide) (by decide)) ⟨ct_in hxr.1 (by omega) (by decide), nm_r (e' := ct_c (ct_up (ct_up (E 1) y 2) x 2)) (ct_wci (v := 2) hxr.1 (by omega) (by decide) (by decide)) ?_⟩⟩
    refine br_t rfl ?_
    show wpX_newRoot _ (ct_lf (ct_wy (ct_s1 E x y) n f g)) (ct_i x)
    rw [hE]
    refine ct_newRoot (C := ct_wy (ct_sH (ct_new A y g' f') x y) n f g) (dw := d) (WP := y :: ct_pg (ct_nd A) d x) q1 (by show ct_rt (ct_sH (ct_new A y g' f') x y) d (ct_sH (ct_new A y g' f') x y 11 3); rw [h113]; exact q2) (fun q _ hq => q3 q (by
      have hq' : q ∈ ct_pg (ct_nd (ct_sH (ct_new A y g' f') x y)) d (ct_sH (ct_new A y g' f') x y 11 3) := hq
      rw [h113] at hq'; exact hq')) q4 q5 q6 (fun a f'' g'' ha0 ha1 haS haW => ?_)
    obtain ⟨r1, r2, r3⟩ := ct_root_Z (g := g') (f := f') (g' := g'') (f' := f'') hz h5 hxf hy0 hy1 hyS hyW' ha0 ha1 haS haW
    have hax : a ≠ x := fun e => haW (by rw [e]; exact List.mem_cons_of_mem _ (ct_pg_self _ _ _))
    have hfin := hp _ a r1 r2 (by
      have hoth := ct_sH_oth (A := ct_new A y g' f') (x := x) (y := y)
      refine ⟨⟨s7, hoth.1, hoth.2.1, s10, hoth.2.2.1, hoth.2.2.2, fun k hk => ?_⟩, r3⟩
      show ct_up (ct_sH (ct_new A y g' f') x y 11) 3 a k = _
      rw [ct_un hk, s11]; rfl)
    show wX_split_143 post (ct_i 0) (ct_i x) (ct_i y) (ct_i a) (ct_i n) (ct_c ((ct_wy (ct_nr (ct_sH (ct_new A y g' f') x y) a g'' f'' x) n f g) 1)) (ct_c ((ct_wy (ct_nr (ct_sH (ct_new A y g' f') x y) a g'' f'' x) n f g) 2)) (ct_a ((ct_wy (ct_nr (ct_sH (ct_new A y g' f') x y) a g'' f'' x) n f g) 3)) (ct_c ((ct_wy (ct_nr (ct_sH (ct_new A y g' f') x y) a g'' f'' x) n f g) 4)) (ct_a ((ct_wy (ct_nr (ct_sH (ct_new A y g' f') x y) a g'' f'' x) n f g) 5)) (ct_a ((ct_wy (ct_nr (ct_sH (ct_new A y g' f') x y) a g'' f'' x) n f g) 6)) (ct_c ((ct_wy (ct_nr (ct_sH (ct_new A y g' f') x y) a g'' f'' x) n f g) 7)) (ct_c ((ct_wy (ct_nr (ct_sH (ct_new A y g' f') x y) a g'' f'' x) n f g) 8)) (ct_a ((ct_wy (ct_nr (ct_sH (ct_new A y g' f') x y) a g'' f'' x) n f g) 9)) (ct_a ((ct_wy (ct_nr (ct_sH (ct_new A y g' f') x y) a g'' f'' x) n f g) 10)) (ct_c ((ct_wy (ct_nr (ct_sH (ct_new A y g' f') x y) a g'' f'' x) n f g) 11)) (ct_c ((ct_wy (ct_nr (ct_sH (ct_new A y g' f') x y) a g'' f'' x) n f g) 12)) (ct_a ((ct_wy (ct_nr (ct_sH (ct_new A y g' f') x y) a g'' f'' x) n f g) 13)) (ct_c ((ct_wy (ct_nr (ct_sH (ct_new A y g' f') x y) a g'' f'' x) n f g) 14)) (ct_c ((ct_wy (ct_nr (ct_sH (ct_new A y g' f') x y) a g'' f'' x) n f g) 15)) (ct_c ((ct_wy (ct_nr (ct_sH (ct_new A y g' f') x y) a g'' f'' x) n f g) 16))
    unfold wX_split_143
    refine br_t rfl ?_
    have h1a : ct_nr (ct_sH (ct_new A y g' f') x y) a g'' f'' x 1 a = 0 := ct_us
    refine ct_split_161 (A := ct_wy (ct_nr (ct_sH (ct_new A y g' f') x y) a g'' f'' x) n f g) (i := 0) hxr.1 hxr.2.1 hy0 hy1 ha0 ha1 hax (by omega) ?_ ?_ hfin
    · show 0 ≤ ct_nr (ct_sH (ct_new A y g' f') x y) a g'' f'' x 1 a
      omega
    · show ct_nr (ct_sH (ct_new A y g' f') x y) a g'' f'' x 1 a ≤ 4
      omega
  have := ct_split_15 (post := post) (A := ct_wy (ct_new A y g' f') n f g) (L := 0) hxr.1 hxr.2.1 hy0 hy1 hyx (by show -128 ≤ ct_new A y g' f' 4 (6 * x) ∧ ct_new A y g' f' 4 (6 * x) < 128; rw [e4x]; exact hb)
    (fun hlf => key (ct_sk (ct_new A y g' f') x y 2) (by unfold ct_sH; rw [if_pos (show ct_new A y g' f' 4 (6 * x) < 0 from hlf)]))
    (fun hlf => key (ct_sc (ct_sk (ct_new A y g' f') x y 2) x y 3) (by unfold ct_sH; rw [if_neg (show ¬ ct_new A y g' f' 4 (6 * x) < 0 from hlf)])) 2 0 (by omega) (by omega)
  unfold ct_sk at this
  rw [ct_cp_0, ct_cp_0] at this
  exact this
end
section
/-! ===== 21: insert, put ===== -/
theorem ct_insert_67 {post : St1 → Prop} {A0 : Nat → Int → Int} {D : Nat → Nat} {SP CT : List Int} {W : List ct_KV} {n : Int} {f g : Int → Int} (hW : W.length ≤ 25)
    (hp : ∀ B d fs x, ct_Z B D SP CT d fs x W → ct_lo fs ≤ (ct_nd B x).1.length → (ct_nd B x).1.length ≤ 4 → ct_Ot SP A0 B → post (ct_lf (ct_wy B n f g))) :
    ∀ (fs : List ct_Fr) (d : Nat) (x : Int) (A : Nat → Int → Int), ct_Z A D SP CT d fs x W → ct_lo fs ≤ (ct_nd A x).1.length → (ct_nd A x).1.length ≤ 5 → (∀ fr, fr ∈ fs → A 5 fr.1 = 1) → A 5 x = 1 → ct_Wy f g fs → f (fs.length : Int) = x → fs.length ≤ 7 → ct_Ot SP A0 A →
    wX_insert_67 post (fs.length + 2) (ct_i (fs.length : Int)) (ct_i n) (ct_c ((ct_wy A n f g) 1)) (ct_c ((ct_wy A n f g) 2)) (ct_a ((ct_wy A n f g) 3)) (ct_c ((ct_wy A n f g) 4)) (ct_a ((ct_wy A n f g) 5)) (ct_a ((ct_wy A n f g) 6)) (ct_c ((ct_wy A n f g) 7)) (ct_c ((ct_wy A n f g) 8)) (ct_a ((ct_wy A n f g) 9)) (ct_a ((ct_wy A n f g) 10)) (ct_c ((ct_wy A n f g) 11)) (ct_c ((ct_wy A n f g) 12)) (ct_a ((ct_wy A n f g) 13)) (ct_c ((ct_wy A n f g) 14)) (ct_c ((ct_wy A n f g) 15)) (ct_c ((ct_wy A n f g) 16)) := by
  intro fs
  induction fs with
  | nil =>
    intro d x A hz hl1 hl2 hfr hxf hw hfx h7 hO
    have hxr := hz.2.2.2.1 x (List.mem_append.mpr (Or.inl (ct_pg_self _ _ _)))
    have hkc := hz.2.2.2.2.2.2.1
    have e14 : ct_c f (ct_i (([] : List ct_Fr).length : Int)).toNatClampNeg = ct_i x := by rw [ct_rc (by simp) (by simp), hfx, ct_bI (by omega) (by omega)]
    unfold wX_insert_67
    refine br_f (by decide) ⟨vp_in_iff.mpr (by decide), ?_⟩
    show vp_in (ct_c f (ct_i (([] : List ct_Fr).length : Int)).toNatClampNeg) 100 ∧ (ct_c (A 1) (ct_c f (ct_i (([] : List ct_Fr).length : Int)).toNatClampNeg).toNatClampNeg = 5 → _) ∧ (¬ ct_c (A 1) (ct_c f (ct_i (([] : List ct_Fr).length : Int)).toNatClampNeg).toNatClampNeg = 5 → _)
    rw [e14]
    refine ⟨ct_in hxr.1 (by omega) (by decide), ?_⟩
    rw [ct_rc hxr.1 (by omega), ct_bI (by omega) (by omega), ct_l5, ct_eq (by omega) (by omega) (by omega) (by omega)]
    refine br_c (fun h5 => ?_) (fun h5 => ?_)
    · refine ct_split0 (A := A) (n := n) (f := f) (g := g) hz (by omega) hW hxf hfx (fun B a hzB hlB hOB => ?_)
      refine nm_r (e' := ct_i (-1)) rfl ?_
      unfold wX_insert_67
      exact br_t (by decide) (hp B _ [] a hzB (by simp [ct_lo, hlB]) (by omega) (ct_Ot_t hO hOB))
    · exact hp A d [] x hz hl1 (by omega) hO
  | cons fr fs ih =>
    obtain ⟨p, ⟨ka, ca⟩, kb, cb⟩ := fr
    intro d x A hz hl1 hl2 hfr hxf hw hfx h7 hO
    have hxr := hz.2.2.2.1 x (List.mem_append.mpr (Or.inl (ct_pg_self _ _ _)))
    have hkc := hz.2.2.2.2.2.2.1
    simp only [List.length_cons] at h7 hfx
    have el : ((((p, (ka, ca), (kb, cb)) : ct_Fr) :: fs).length : Int) = (fs.length : Int) + 1 := by simp
    rw [show ((fs.length + 1 : Nat) : Int) = (fs.length : Int) + 1 by omega] at hfx
    have e14 : ct_c f (ct_i ((fs.length : Int) + 1)).toNatClampNeg = ct_i x := by rw [ct_rc (by omega) (by omega), hfx, ct_bI (by omega) (by omega)]
    rw [el]
    unfold wX_insert_67
    refine br_f (by rw [ct_l0, ct_lt (by omega) (by omega) (by omega) (by omega)]; omega) ⟨ct_in (by omega) (by omega) (by decide), ?_⟩
    show vp_in (ct_c f (ct_i ((fs.length : Int) + 1)).toNatClampNeg) 100 ∧ (ct_c (A 1) (ct_c f (ct_i ((fs.length : Int) + 1)).toNatClampNeg).toNatClampNeg = 5 → _) ∧ (¬ ct_c (A 1) (ct_c f (ct_i ((fs.length : Int) + 1)).toNatClampNeg).toNatClampNeg = 5 → _)
    rw [e14]
    refine ⟨ct_in hxr.1 (by omega) (by decide), ?_⟩
    rw [ct_rc hxr.1 (by omega), ct_bI (by omega) (by omega), ct_l5, ct_eq (by omega) (by omega) (by omega) (by omega)]
    refine br_c (fun h5 => ?_) (fun h5 => ?_)
    · have hcx := hz.1
      simp only [ct_Cx] at hcx
      refine ct_split (A := A) (n := n) hz (by omega) hW hxf (hfr _ (List.mem_cons_self)) hw hfx (by omega) (fun B hzB hlB h5B hOB => ?_)
      refine nm_r (e' := ct_i (fs.length : Int)) (by rw [ct_l1, ct_neg, ct_add]; congr 1; omega) ?_
      refine ih (d + 1) p B hzB (by omega) (by omega) (fun fr hfr' => h5B _ (hfr fr (List.mem_cons_of_mem _ hfr'))) (h5B _ (hfr _ (List.mem_cons_self))) hw.2.2 hw.1 (by omega) (ct_Ot_t hO hOB)
    · exact hp A d _ x hz hl1 (by omega) hO
/-- a pair put into the leaf in the hole -/
theorem ct_Z_ins {A : Nat → Int → Int} {D : Nat → Nat} {SP CT : List Int} {fs : List ct_Fr} {x key v : Int} {W ka kb : List ct_KV} (hz : ct_Z A D SP CT 0 fs x W) (hnd : (ct_nd A x).1 = ka ++ kb) (h4 : (ct_nd A x).1.length ≤ 4) (hxf : A 5 x = 1) :
    ct_Z (ct_ins A x ka.length key v) D SP CT 0 fs x (ct_CL (ct_nd A) 0 fs ++ ((ka ++ (key, v) :: kb) ++ ct_CR (ct_nd A) 0 fs)) ∧ (ct_nd (ct_ins A x ka.length key v) x).1 = ka ++ (key, v) :: kb ∧ ct_Ot SP A (ct_ins A x ka.length key v) := by
  have hY := ct_Z_Y hz
  obtain ⟨z1, z2, z3, z4, z5, z6, z7, z8⟩ := hz
  have hnx : ct_nd A x = (ka ++ kb, []) := by
    have : (ct_nd A x).2 = [] := z2
    rw [← hnd, ← this]
  have hlen : (ct_nd A x).1.length = ka.length + kb.length := by rw [hnd]; simp
  obtain ⟨i1, i2⟩ := ct_ins_x (k := key) (v := v) hnx z7 h4
  have io : ∀ q, q ≠ x → ct_nd (ct_ins A x ka.length key v) q = ct_nd A q ∧ ct_ins A x ka.length key v 1 q = A 1 q := fun q hq => ct_ins_o hq (by omega) (by omega) (by omega)
  have hxW := z4 x (List.mem_append.mpr (Or.inl (ct_pg_self _ _ _)))
  have hn := List.nodup_append.mp z3
  refine ⟨ct_Y_Z (ct_Y_mod (N := []) (R := []) (M := [x]) hY ⟨⟨rfl, rfl, fun _ _ => rfl⟩, fun q hq => ?_⟩ (fun q hq => ?_) ?_ (by simp) (by simp) (by simp) (fun q _ _ => rfl) rfl ?_) ?_ ?_, by rw [i1], ⟨⟨rfl, rfl, rfl, rfl, rfl, rfl, fun _ _ => rfl⟩, fun q hq => ?_⟩⟩
  · simp only [List.mem_cons, List.not_mem_nil, or_false] at hq
    exact ⟨(io q hq).1, (io q hq).2, rfl⟩
  · simp only [List.mem_cons, List.not_mem_nil, or_false] at hq
    subst hq
    exact ⟨fun hm => hn.2.2 q (ct_pg_self _ _ _) q hm rfl, ct_Sx_fr z8 hxf, hxW.2.2.1⟩
  · simp [ct_pg]
  · have : ct_fl (ct_nd (ct_ins A x ka.length key v)) 0 x = ka ++ (key, v) :: kb := by simp only [ct_fl]; rw [i1]
    rw [this]
  · show (ct_nd (ct_ins A x ka.length key v) x).2 = []
    rw [i1]
  · rw [i1]; exact i2
  · exact ⟨(io q (fun e => ct_Sx_fr z8 hxf (e ▸ hq))).1, rfl⟩
theorem ct_insert_26 {post : St1 → Prop} {A : Nat → Int → Int} {D : Nat → Nat} {SP CT : List Int} {fs : List ct_Fr} {x key v : Int} {W W' ka kb : List ct_KV} {f g : Int → Int} (hz : ct_Z A D SP CT 0 fs x W) (hnd : (ct_nd A x).1 = ka ++ kb) (h4 : (ct_nd A x).1.length ≤ 4) (hlo : ct_lo fs ≤ (ct_nd A x).1.length + 1) (hfr : ∀ fr, fr ∈ fs → A 5 fr.1 = 1) (hxf : A 5 x = 1) (hw : ct_Wy f g fs) (hfx : f (fs.length : Int) = x) (hgx : g (fs.length : Int) = (ka.length : Int)) (h7 : fs.length ≤ 7) (hW' : ct_CL (ct_nd A) 0 fs ++ ((ka ++ (key, v) :: kb) ++ ct_CR (ct_nd A) 0 fs) = W') (hWl : W'.length ≤ 25)
    (hp : ∀ B d fs' x', ct_Z B D SP CT d fs' x' W' → ct_lo fs' ≤ (ct_nd B x').1.length → (ct_nd B x').1.length ≤ 4 → ct_Ot SP A B → post (ct_lf (ct_wy B ((fs.length : Int) + 1) f g))) :
    wX_insert_26 post (ct_i key) (ct_i v) (ct_i ((fs.length : Int) + 1)) (ct_c ((ct_wy A ((fs.length : Int) + 1) f g) 1)) (ct_c ((ct_wy A ((fs.length : Int) + 1) f g) 2)) (ct_a ((ct_wy A ((fs.length : Int) + 1) f g) 3)) (ct_c ((ct_wy A ((fs.length : Int) + 1) f g) 4)) (ct_a ((ct_wy A ((fs.length : Int) + 1) f g) 5)) (ct_a ((ct_wy A ((fs.length : Int) + 1) f g) 6)) (ct_c ((ct_wy A ((fs.length : Int) + 1) f g) 7)) (ct_c ((ct_wy A ((fs.length : Int) + 1) f g) 8)) (ct_a ((ct_wy A ((fs.length : Int) + 1) f g) 9)) (ct_a ((ct_wy A ((fs.length : Int) + 1) f g) 10)) (ct_c ((ct_wy A ((fs.length : Int) + 1) f g) 11)) (ct_c ((ct_wy A ((fs.length : Int) + 1) f g) 12)) (ct_a ((ct_wy A ((fs.length : Int) + 1) f g) 13)) (ct_c ((ct_wy A ((fs.length : Int) + 1) f g) 14)) (ct_c ((ct_wy A ((fs.length : Int) + 1) f g) 15)) (ct_c ((ct_wy A ((fs.length : Int) + 1) f g) 16)) := by
  have hxr := hz.2.2.2.1 x (List.mem_append.mpr (Or.inl (ct_pg_self _ _ _)))
  have hkc := hz.2.2.2.2.2.2.1
  have hlen : (ct_nd A x).1.length = ka.length + kb.length := by rw [hnd]; simp
  obtain ⟨i1, i2, i3⟩ := ct_Z_ins (key := key) (v := v) hz hnd h4 hxf
  rw [hW'] at i1
  have e14 : ct_c f (ct_i (fs.length : Int)).toNatClampNeg = ct_i x := by rw [ct_rc (by omega) (by omega), hfx, ct_bI (by omega) (by omega)]
  have e15 : ct_c g (ct_i (fs.length : Int)).toNatClampNeg = ct_i (ka.length : Int) := by rw [ct_rc (by omega) (by omega), hgx, ct_bI (by omega) (by omega)]
  have hil : (ct_nd (ct_ins A x ka.length key v) x).1.length = (ct_nd A x).1.length + 1 := by rw [i2, hlen]; simp; omega
  unfold wX_insert_26
  refine nm_r (e' := ct_i (fs.length : Int)) (by rw [ct_l1, ct_sub]; congr 1; omega) ⟨ct_in (by omega) (by omega) (by decide), ct_in (by omega) (by omega) (by decide), ?_⟩
  show wpX_openPlace _ _ (ct_c f (ct_i (fs.length : Int)).toNatClampNeg) (ct_c g (ct_i (fs.length : Int)).toNatClampNeg)
  rw [e14, e15]
  refine ct_openPlace (A := ct_wy A ((fs.length : Int) + 1) f g) hxr.1 hxr.2.1 (by omega) (show (ka.length : Int) ≤ A 1 x by omega) (show A 1 x ≤ 4 by omega) ?_
  refine ⟨ct_in (by omega) (by omega) (by decide), ct_in (by omega) (by omega) (by decide), ?_⟩
  show wpX_putAt _ _ (ct_c f (ct_i (fs.length : Int)).toNatClampNeg) (ct_c g (ct_i (fs.length : Int)).toNatClampNeg) _ _
  rw [e14, e15]
  refine ct_putAt (A := ct_opn (ct_wy A ((fs.length : Int) + 1) f g) x ka.length) key v (by omega) (by omega) (ct_tb key) rfl ?_
  refine ⟨fs.length + 2, ?_⟩
  exact ct_insert_67 (A0 := A) (n := (fs.length : Int) + 1) hWl hp fs 0 x (ct_ins A x ka.length key v) i1 (by omega) (by omega) hfr hxf hw hfx h7 i3
theorem ct_insert {post : St1 → Prop} {A : Nat → Int → Int} {D : Nat → Nat} {SP CT : List Int} {fs : List ct_Fr} {x key v : Int} {W W' ka kb : List ct_KV} {f g : Int → Int} (hz : ct_Z A D SP CT 0 fs x W) (hnd : (ct_nd A x).1 = ka ++ kb) (h4 : (ct_nd A x).1.length ≤ 4) (hlo : ct_lo fs ≤ (ct_nd A x).1.length + 1) (hfr : ∀ fr, fr ∈ fs → A 5 fr.1 = 1) (hxf : A 5 x = 1) (hw : ct_Wy f g fs) (hfx : f (fs.length : Int) = x) (hgx : g (fs.length : Int) = (ka.length : Int)) (h7 : fs.length ≤ 7) (hW' : ct_CL (ct_nd A) 0 fs ++ ((ka ++ (key, v) :: kb) ++ ct_CR (ct_nd A) 0 fs) = W') (hWl : W'.length ≤ 25)
    (hp : ∀ B d fs' x', ct_Z B D SP CT d fs' x' W' → ct_lo fs' ≤ (ct_nd B x').1.length → (ct_nd B x').1.length ≤ 4 → ct_Ot SP A B → post (ct_lf (ct_wy B ((fs.length : Int) + 1) f g))) :
    wpX_insert post (ct_lf (ct_wy A ((fs.length : Int) + 1) f g)) (ct_i key) (ct_i v) := by
  unfold wpX_insert
  refine br_f ?_ (ct_insert_26 hz hnd h4 hlo hfr hxf hw hfx hgx h7 hW' hWl hp)
  show ¬ ct_i ((fs.length : Int) + 1) = 0
  rw [ct_l0, ct_eq (by omega) (by omega) (by omega) (by omega)]; omega
theorem ct_insert_e {post : St1 → Prop} {A : Nat → Int → Int} {D : Nat → Nat} {SP CT : List Int} {key v : Int} {f g : Int → Int} (hS : ct_Sx A D SP CT) (hr : A 11 3 = -1) (hF : ∀ q, 0 ≤ q → q < 100 → A 5 q = 0)
    (hp : ∀ B d fs' x' f' g', ct_Z B D SP CT d fs' x' [(key, v)] → ct_lo fs' ≤ (ct_nd B x').1.length → (ct_nd B x').1.length ≤ 4 → ct_Ot SP A B → post (ct_lf (ct_wy B 1 f' g'))) :
    wpX_insert post (ct_lf (ct_wy A 0 f g)) (ct_i key) (ct_i v) := by
  unfold wpX_insert
  refine br_t rfl ?_
  refine ct_newP (A := ct_wy A 0 f g) (D := D) (SP := SP) (CT := CT) (WP := []) (dw := 0) hS (Or.inl (by show -2 ≤ A 11 3 ∧ A 11 3 < 0; omega)) (fun q h => by have h' : 0 ≤ A 11 3 := h; omega) (fun q h0 h1 h2 => absurd (hF q h0 h1) h2) (by simp) (by simp) (fun c f' g' h0 h1 h2 h3 h4 => ?_)
  refine nm_r (e' := ct_c (ct_up (A 11) 3 c)) (by rw [ct_tb]; exact ct_wc3 _ _) ?_
  refine ct_pushWy (A := ct_st (ct_new A c g' f') 11 (ct_up (A 11) 3 c)) (n := 0) (f := f) (g := g) (i := 0) (by omega) (by omega) ?_
  have hnc : ct_nd (ct_st (ct_new A c g' f') 11 (ct_up (A 11) 3 c)) c = ([], []) := ct_nd_new_c (A := A) (c := c) (g := g') (f := f')
  have hno : ∀ q, q ≠ c → ct_nd (ct_st (ct_new A c g' f') 11 (ct_up (A 11) 3 c)) q = ct_nd A q := fun q hq => ct_nd_new (A := A) (g := g') (f := f') hq
  have h5 : ct_st (ct_new A c g' f') 11 (ct_up (A 11) 3 c) 5 = ct_up (A 5) c 1 := rfl
  have hOt : ct_Ot SP A (ct_st (ct_new A c g' f') 11 (ct_up (A 11) 3 c)) := by
    refine ⟨⟨rfl, rfl, rfl, rfl, rfl, rfl, fun k hk => ct_un hk⟩, fun q hq => ⟨hno q (fun e => h2 (e ▸ hq)), ?_⟩⟩
    have hqc : q ≠ c := fun e => h2 (e ▸ hq)
    exact ct_un (by omega)
  have hz : ct_Z (ct_st (ct_new A c g' f') 11 (ct_up (A 11) 3 c)) D SP CT 0 [] c [] := by
    refine ⟨?_, ?_, ?_, fun q hq => ?_, fun q k0 k1 k2 => ?_, ?_, ?_, ?_⟩
    · simp only [ct_Cx]
      exact (show ct_up (A 11) 3 c 3 = c from ct_us).symm
    · show (ct_nd (ct_st (ct_new A c g' f') 11 (ct_up (A 11) 3 c)) c).2 = []
      rw [hnc]
    · simp [ct_pg, ct_CP]
    · simp [ct_pg, ct_CP] at hq
      subst hq
      refine ⟨h0, h1, ?_, Or.inl ct_us⟩
      show -128 ≤ ct_up (A 4) (6 * q) (-1) (6 * q)
      rw [ct_us]; decide
    · rw [h5] at k2
      by_cases e : q = c
      · rw [e]; simp [ct_pg]
      · rw [ct_un e] at k2
        exact absurd (hF q k0 k1) k2
    · simp only [ct_CL, ct_CR, ct_fl]
      rw [hnc]; rfl
    · rw [hnc]
      exact (show ct_up (A 1) c 0 c = 0 from ct_us)
    · refine ct_Sx_ag (A := A) (M := [c]) ⟨⟨rfl, rfl, fun k hk => ct_un hk⟩, fun q hq => ?_⟩ (fun q hq => ?_) (fun q hq => ?_) (fun q => ?_) hS
      · simp only [List.mem_cons, List.not_mem_nil, or_false] at hq
        exact ⟨hno q hq, ct_un hq, ct_un (by omega)⟩
      · simp only [List.mem_cons, List.not_mem_nil, or_false] at hq
        rw [hq]; exact h2
      · rw [h5]
        have hqc : q ≠ c := fun e => h2 (e ▸ hq)
        exact ct_un hqc
      · rw [h5]
        by_cases e : q = c
        · rw [e, ct_us]; omega
        · rw [ct_un e]; exact hS.2.2.2 q
  exact ct_insert_26 (A := ct_st (ct_new A c g' f') 11 (ct_up (A 11) 3 c)) (fs := []) (ka := []) (kb := []) (f := ct_up f 0 c) (g := ct_up g 0 0) hz (by rw [hnc]; rfl) (by rw [hnc]; simp) (by simp [ct_lo]) (by simp) (show ct_up (A 5) c 1 c = 1 from ct_us) trivial ct_us ct_us (by simp) (by simp [ct_CL, ct_CR]) (by simp) (fun B d fs' x' hB1 hB2 hB3 hB4 => hp B d fs' x' _ _ hB1 hB2 hB3 (ct_Ot_t hOt hB4))
/-- what a call on the writer leaves: another content -/
def ct_Res (A : Nat → Int → Int) (D : Nat → Nat) (SP CT : List Int) (W : List ct_KV) (B : Nat → Int → Int) : Prop :=
  ct_Sx B D SP CT ∧ ct_Ot SP A B ∧ ∃ dw, ct_R B dw (B 11 3) W ∧ (∀ q, 0 ≤ B 11 3 → q ∈ ct_pg (ct_nd B) dw (B 11 3) → B 5 q = 1 ∨ q ∈ CT) ∧ (∀ q, 0 ≤ q → q < 100 → B 5 q ≠ 0 → 0 ≤ B 11 3 ∧ q ∈ ct_pg (ct_nd B) dw (B 11 3))
theorem ct_Res_Z {A B : Nat → Int → Int} {D : Nat → Nat} {SP CT : List Int} {d : Nat} {fs : List ct_Fr} {x : Int} {W : List ct_KV} (hz : ct_Z B D SP CT d fs x W) (hl1 : ct_lo fs ≤ (ct_nd B x).1.length) (hl2 : (ct_nd B x).1.length ≤ 4) (hO : ct_Ot SP A B) : ct_Res A D SP CT W B := by
  obtain ⟨f1, f2, f3, f4⟩ := ct_Z_fin hz hl1 hl2
  have hr := f1.2.2.2.1 _ (ct_pg_self _ _ _)
  exact ⟨f4, hO, _, Or.inr ⟨hr.1, f1⟩, fun q _ hq => f2 q hq, fun q h0 h1 h2 => ⟨hr.1, f3 q h0 h1 h2⟩⟩
/-- the writer's tree as a hole at the root -/
theorem ct_Z_root {A : Nat → Int → Int} {D : Nat → Nat} {SP CT : List Int} {dw : Nat} {W : List ct_KV} (hS : ct_Sx A D SP CT) (hT : ct_T A dw (A 11 3) W) (h1 : ∀ q, q ∈ ct_pg (ct_nd A) dw (A 11 3) → A 5 q = 1 ∨ q ∈ CT) (h2 : ∀ q, 0 ≤ q → q < 100 → A 5 q ≠ 0 → q ∈ ct_pg (ct_nd A) dw (A 11 3)) : ct_Z A D SP CT dw [] (A 11 3) W := by
  obtain ⟨t1, t2, t3, t4, t5, t6, t7⟩ := hT
  refine ⟨rfl, t1, by simpa [ct_CP] using t5, fun q hq => ?_, fun q g0 g1 g2 => by simpa [ct_CP] using h2 q g0 g1 g2, by simpa [ct_CL, ct_CR] using t7, ct_nd_kc t2 t3, hS⟩
  simp only [ct_CP, List.append_nil] at hq
  exact ⟨(t4 q hq).1, (t4 q hq).2, t6 q hq, h1 q hq⟩
end
section
/-! ===== 22: put as a whole ===== -/
/-- a pair put into a sorted content -/
def ct_pu (k v : Int) : List ct_KV → List ct_KV
  | [] => [(k, v)]
  | e :: W => if e.1 < k then e :: ct_pu k v W else if e.1 = k then (k, v) :: W else (k, v) :: e :: W
theorem ct_pu_new {k v : Int} {S : List ct_KV} (hS : ∀ e, e ∈ S → k < e.1) : ∀ (P : List ct_KV), (∀ e, e ∈ P → e.1 < k) → ct_pu k v (P ++ S) = P ++ (k, v) :: S := by
  intro P
  induction P with
  | nil =>
    intro _
    cases S with
    | nil => rfl
    | cons e S =>
      have := hS e (by simp)
      simp only [List.nil_append, ct_pu]
      rw [if_neg (by omega), if_neg (by omega)]
  | cons e P ih =>
    intro h
    have := h e (by simp)
    simp only [List.cons_append, ct_pu]
    rw [if_pos this, ih (fun a ha => h a (by simp [ha]))]
theorem ct_pu_set {k v w : Int} {S : List ct_KV} : ∀ (P : List ct_KV), (∀ e, e ∈ P → e.1 < k) → ct_pu k v (P ++ (k, w) :: S) = P ++ (k, v) :: S := by
  intro P
  induction P with
  | nil =>
    intro _
    simp only [List.nil_append, ct_pu]
    rw [if_neg (by omega), if_pos trivial]
  | cons e P ih =>
    intro h
    have := h e (by simp)
    simp only [List.cons_append, ct_pu]
    rw [if_pos this, ih (fun a ha => h a (by simp [ha]))]
/-- one pair of a node written over -/
theorem ct_fl_set {H H' : ct_Hp} {d : Nat} {x : Int} {ka kb : List ct_KV} {s s' : ct_KV} {cs : List Int} (h : H x = (ka ++ s :: kb, cs)) (h' : H' x = (ka ++ s' :: kb, cs)) (hs : ct_sh H d x) (hq : ∀ q, q ∈ ct_pn H d cs → H' q = H q) : (∃ P S, ct_fl H d x = P ++ s :: S ∧ ct_fl H' d x = P ++ s' :: S) ∧ ct_sh H' d x ∧ ct_pg H' d x = ct_pg H d x := by
  have hno : ct_no H d (ka ++ s :: kb, cs) := by rw [← h]; exact ct_no_sh.mp hs
  obtain ⟨c1, c2, hC, hn1, hn2, hd0, hd1⟩ := ct_no_spl hno
  have j := ct_no_join (m := s) hn1 hn2
  have j' := ct_no_join (m := s') hn1 hn2
  obtain ⟨n1, n2, n3⟩ := ct_no_cg (H := H) (H' := H') (d := d) (n := (ka ++ s' :: kb, cs)) hq
  rw [hC] at n1 n2
  refine ⟨⟨ct_nf H d (ka, c1), ct_nf H d (kb, c2), ?_, ?_⟩, ?_, ?_⟩
  · rw [ct_nf_fl, h, hC]; exact j.2
  · rw [ct_nf_fl, h', hC, n2]; exact j'.2
  · rw [ct_no_sh, h', hC]; exact n1 j'.1
  · rw [ct_pn_pg, ct_pn_pg, h, h']
    simp only at n3 ⊢
    rw [n3]
theorem ct_Z_pat {A : Nat → Int → Int} {D : Nat → Nat} {SP CT : List Int} {d : Nat} {fs : List ct_Fr} {x k v : Int} {W ka kb : List ct_KV} {s : ct_KV} (hz : ct_Z A D SP CT d fs x W) (hnd : (ct_nd A x).1 = ka ++ s :: kb) (hxf : A 5 x = 1) :
    ∃ P S, ct_fl (ct_nd A) d x = P ++ s :: S ∧ ct_Z (ct_pat A x ka.length k v) D SP CT d fs x (ct_CL (ct_nd A) d fs ++ ((P ++ (k, v) :: S) ++ ct_CR (ct_nd A) d fs)) ∧ ct_nd (ct_pat A x ka.length k v) x = (ka ++ (k, v) :: kb, (ct_nd A x).2) ∧ ct_Ot SP A (ct_pat A x ka.length k v) := by
  have hY := ct_Z_Y hz
  obtain ⟨z1, z2, z3, z4, z5, z6, z7, z8⟩ := hz
  have hnx : ct_nd A x = (ka ++ s :: kb, (ct_nd A x).2) := by rw [← hnd]
  have hcap := ct_nd_cap (A := A) (x := x)
  rw [hnd] at hcap
  simp at hcap
  have hpx := ct_pat_x (k := k) (v := v) hnx
  have hpo : ∀ q, q ≠ x → ct_nd (ct_pat A x ka.length k v) q = ct_nd A q := fun q hq => ct_pat_o hq (by omega) (by omega)
  have hn := List.nodup_append.mp z3
  have hxn : ∀ q, q ∈ ct_pn (ct_nd A) d (ct_nd A x).2 → q ≠ x := by
    intro q hq e
    have := hn.1
    rw [ct_pn_pg, List.nodup_cons] at this
    exact this.1 (e ▸ hq)
  obtain ⟨⟨P, S, f1, f2⟩, f3, f4⟩ := ct_fl_set (H := ct_nd A) (H' := ct_nd (ct_pat A x ka.length k v)) (d := d) hnx hpx z2 (fun q hq => hpo q (hxn q hq))
  have hxW := z4 x (List.mem_append.mpr (Or.inl (ct_pg_self _ _ _)))
  refine ⟨P, S, f1, ct_Y_Z (ct_Y_mod (N := []) (R := []) (M := [x]) hY ⟨⟨rfl, rfl, fun _ _ => rfl⟩, fun q hq => ?_⟩ (fun q hq => ?_) ?_ (by simp) (by simp) (by simp) (fun q _ _ => rfl) rfl ?_) f3 ?_, hpx, ⟨⟨rfl, rfl, rfl, rfl, rfl, rfl, fun _ _ => rfl⟩, fun q hq => ?_⟩⟩
  · simp only [List.mem_cons, List.not_mem_nil, or_false] at hq
    exact ⟨hpo q hq, rfl, rfl⟩
  · simp only [List.mem_cons, List.not_mem_nil, or_false] at hq
    subst hq
    exact ⟨fun hm => hn.2.2 q (ct_pg_self _ _ _) q hm rfl, ct_Sx_fr z8 hxf, hxW.2.2.1⟩
  · rw [f4]; simp
  · rw [f2]
  · rw [hpx]
    show A 1 x = _
    rw [z7, hnd]; simp
  · exact ⟨hpo q (fun e => ct_Sx_fr z8 hxf (e ▸ hq)), rfl⟩
/-- the keys of the frames: below and above the key -/
def ct_Fk (key : Int) (ks : List (List ct_KV × List ct_KV)) : Prop := ∀ t, t ∈ ks → (∀ e, e ∈ t.1 → e.1 < key) ∧ (∀ e, e ∈ t.2 → key < e.1)
theorem ct_zl_mem {e : ct_KV} : ∀ (kb : List ct_KV) (cb : List (List ct_KV)), kb.length = cb.length → e ∈ kb → e ∈ ct_zl kb cb := by
  intro kb
  induction kb with
  | nil => intro cb _ h; simp at h
  | cons k ks ih =>
    intro cb hl h
    cases cb with
    | nil => simp at hl
    | cons c cs =>
      simp only [ct_zl]
      rcases List.mem_cons.mp h with h | h
      · rw [h]; simp
      · have := ih cs (by simpa using hl) h
        simp [this]
theorem ct_Fk_of {H : ct_Hp} {key : Int} : ∀ (fs : List ct_Fr) (d : Nat) (x r : Int), ct_Cx H d fs x r → (∀ e, e ∈ ct_CL H d fs → e.1 < key) → (∀ e, e ∈ ct_CR H d fs → key < e.1) → ct_Fk key (fs.map ct_ky) := by
  intro fs
  induction fs with
  | nil => intro d x r _ _ _ t ht; simp at ht
  | cons fr fs ih =>
    obtain ⟨p, ⟨ka, ca⟩, kb, cb⟩ := fr
    intro d x r h hl hr
    simp only [ct_Cx] at h
    obtain ⟨h1, h2, h3, h4, h5, h6, h7⟩ := h
    simp only [ct_CL, ct_CR, List.mem_append] at hl hr
    have i := ih (d + 1) p r h7 (fun e he => hl e (Or.inl he)) (fun e he => hr e (Or.inr he))
    intro t ht
    rcases List.mem_cons.mp ht with e | ht
    · rw [e]
      exact ⟨fun a ha => hl a (Or.inr (ct_zl_mem _ _ (by simpa using h2) ha)), fun a ha => hr a (Or.inl (ct_zr_mem _ _ (by simpa using h3) ha))⟩
    · exact i t ht
theorem ct_Fk_CL {H : ct_Hp} {key : Int} : ∀ (fs : List ct_Fr) (d : Nat) (x r : Int), ct_Cx H d fs x r → ct_so (ct_CL H d fs) → ct_so (ct_CR H d fs) → ct_Fk key (fs.map ct_ky) → (∀ e, e ∈ ct_CL H d fs → e.1 < key) ∧ (∀ e, e ∈ ct_CR H d fs → key < e.1) := by
  intro fs
  induction fs with
  | nil => intro d x r _ _ _ _; simp [ct_CL, ct_CR]
  | cons fr fs ih =>
    obtain ⟨p, ⟨ka, ca⟩, kb, cb⟩ := fr
    intro d x r h hl hr hk
    simp only [ct_Cx] at h
    obtain ⟨h1, h2, h3, h4, h5, h6, h7⟩ := h
    simp only [ct_CL, ct_CR] at hl hr ⊢
    have hl' := ct_so_app hl
    have hr' := ct_so_app hr
    have hk0 := hk (ka, kb) (by simp [ct_ky])
    have i := ih (d + 1) p r h7 hl'.1 hr'.2.1 (fun t ht => hk t (by simp only [List.map_cons, List.mem_cons]; exact Or.inr ht))
    refine ⟨fun e he => ?_, fun e he => ?_⟩
    · rcases List.mem_append.mp he with h | h
      · exact i.1 e h
      · exact ct_zl_lt ka _ hl'.2.1 hk0.1 e h
    · rcases List.mem_append.mp he with h | h
      · exact ct_zr_gt kb _ hr'.1 (fun a kb' e => hk0.2 a (by rw [e]; simp)) e h
      · exact i.2 e h
/-- no way, nothing copied -/
theorem ct_copyWay_e {post : St1 → Prop} {A : Nat → Int → Int} {f g : Int → Int} (hp : post (ct_lf (ct_wy A 0 f g))) : wpX_copyWay post (ct_lf (ct_wy A 0 f g)) := by
  unfold wpX_copyWay
  refine ⟨1, ?_⟩
  show wX_copyWay_2 post 1 0 (ct_i 0) (ct_c ((ct_wy A 0 f g) 1)) (ct_c ((ct_wy A 0 f g) 2)) (ct_a ((ct_wy A 0 f g) 3)) (ct_c ((ct_wy A 0 f g) 4)) (ct_a ((ct_wy A 0 f g) 5)) (ct_a ((ct_wy A 0 f g) 6)) (ct_c ((ct_wy A 0 f g) 7)) (ct_c ((ct_wy A 0 f g) 8)) (ct_a ((ct_wy A 0 f g) 9)) (ct_a ((ct_wy A 0 f g) 10)) (ct_c ((ct_wy A 0 f g) 11)) (ct_c ((ct_wy A 0 f g) 12)) (ct_a ((ct_wy A 0 f g) 13)) (ct_c ((ct_wy A 0 f g) 14)) (ct_c ((ct_wy A 0 f g) 15)) (ct_c ((ct_wy A 0 f g) 16))
  unfold wX_copyWay_2
  exact br_t (by decide) hp
/-- the writer between calls -/
def ct_Wr (A : Nat → Int → Int) (D : Nat → Nat) (SP CT : List Int) (W : List ct_KV) : Prop :=
  ct_Sx A D SP CT ∧ ct_W W ∧ A 12 3 = W.length ∧ ∃ dw, ct_R A dw (A 11 3) W ∧ (∀ q, 0 ≤ A 11 3 → q ∈ ct_pg (ct_nd A) dw (A 11 3) → A 5 q = 1 ∨ q ∈ CT) ∧ (∀ q, 0 ≤ q → q < 100 → A 5 q ≠ 0 → 0 ≤ A 11 3 ∧ q ∈ ct_pg (ct_nd A) dw (A 11 3))
theorem ct_put {post : Int32 → St1 → Prop} {A : Nat → Int → Int} {D : Nat → Nat} {SP CT : List Int} {W : List ct_KV} {key v : Int} (hw : ct_Wr A D SP CT W) (hkey : 0 ≤ key ∧ key < 100)
    (hp0 : (∃ w, (key, w) ∈ W) → ∀ B n f g, ct_Res A D SP CT (ct_pu key v W) B → (ct_pu key v W).length = W.length → post 0 (ct_lf (ct_wy B n f g)))
    (hp1 : (∀ e, e ∈ W → e.1 ≠ key) → W.length < 24 → ∀ B n f g, ct_Res A D SP CT (ct_pu key v W) B → (ct_pu key v W).length = W.length + 1 → post 1 (ct_lf (ct_wy (ct_st B 12 (ct_up (B 12) 3 (B 12 3 + 1))) n f g)))
    (hp2 : (∀ e, e ∈ W → e.1 ≠ key) → ¬ W.length < 24 → ∀ n f g, post (-2) (ct_lf (ct_wy A n f g))) : wpX_put post (ct_lf A) (ct_i key) (ct_i v) := by
  obtain ⟨hS, hWW, h12, dw, hR, hO, hF⟩ := hw
  have hrg := ct_R_rg hR
  have hWl := hWW.2.2
  have e11 : ct_c (A 11) 3 = ct_i (A 11 3) := by rw [ct_rc3, ct_bI (by omega) (by omega)]
  have e12 : ct_c (A 12) 3 = ct_i (A 12 3) := by rw [ct_rc3, ct_bI (by omega) (by omega)]
  have h12c : ∀ B, ct_Ot SP A B → upd (ct_c (B 12)) 3 ((ct_c (B 12) 3 + 1).toInt8.toInt32) = ct_c (ct_up (B 12) 3 (B 12 3 + 1)) := by
    intro B hOt
    have : B 12 3 = W.length := by rw [hOt.1.2.2.2.2.1]; exact h12
    rw [ct_rc3, ct_bI (by omega) (by omega), ct_l1, ct_add, ct_tb, ct_wc3]
  unfold wpX_put
  refine ct_isKey hkey.1 (by omega) ?_
  refine br_f (by decide) ?_
  show wpX_find _ (ct_lf A) (ct_c (A 11) 3) (ct_i key)
  rw [e11]
  rcases hR with ⟨hr, hw0⟩ | ⟨hr, hT⟩
  · subst hw0
    rw [hr]
    refine ct_find_e (A := A) (by omega) ?_
    refine br_t rfl ?_
    refine br_t ?_ ?_
    · show ct_c (A 12) 3 < 24
      rw [e12, h12, ct_l24, ct_lt (by simp) (by simp) (by omega) (by omega)]; simp
    show wX_put_40 post (ct_i key) (ct_i v) (ct_i 0) (ct_i 0) (ct_c ((ct_wy A 0 (A 14) (A 15)) 1)) (ct_c ((ct_wy A 0 (A 14) (A 15)) 2)) (ct_a ((ct_wy A 0 (A 14) (A 15)) 3)) (ct_c ((ct_wy A 0 (A 14) (A 15)) 4)) (ct_a ((ct_wy A 0 (A 14) (A 15)) 5)) (ct_a ((ct_wy A 0 (A 14) (A 15)) 6)) (ct_c ((ct_wy A 0 (A 14) (A 15)) 7)) (ct_c ((ct_wy A 0 (A 14) (A 15)) 8)) (ct_a ((ct_wy A 0 (A 14) (A 15)) 9)) (ct_a ((ct_wy A 0 (A 14) (A 15)) 10)) (ct_c ((ct_wy A 0 (A 14) (A 15)) 11)) (ct_c ((ct_wy A 0 (A 14) (A 15)) 12)) (ct_a ((ct_wy A 0 (A 14) (A 15)) 13)) (ct_c ((ct_wy A 0 (A 14) (A 15)) 14)) (ct_c ((ct_wy A 0 (A 14) (A 15)) 15)) (ct_c ((ct_wy A 0 (A 14) (A 15)) 16))
    unfold wX_put_40
    refine ct_copyWay_e (A := A) ?_
    refine nm_r (e' := ct_i (-1)) rfl (br_t rfl ?_)
    refine ct_insert_e (A := A) (D := D) (SP := SP) (CT := CT) hS hr (fun q h0 h1 => Classical.byContradiction (fun h => by have := (hF q h0 h1 h).1; omega)) (fun B d fs' x' f' g' hB1 hB2 hB3 hB4 => ?_)
    refine nm_r (h12c B hB4) ?_
    exact hp1 (by simp) (by simp) B 1 f' g' (ct_Res_Z hB1 hB2 hB3 hB4) rfl
  · have hz := ct_Z_root hS hT (fun q hq => hO q hr hq) (fun q h0 h1 h2 => (hF q h0 h1 h2).2)
    have hD := ct_dep hT.1 hT.2.1 (by rw [hT.2.2.2.2.2.2]; omega)
    refine ct_find (A := A) hT hWW.1 hWW.2.1 (by omega) hkey (fun fs d x ka kb w f g hAt hcl hcr => ?_) (fun fs x ka kb f g hAt hcl hcr => ?_)
    · -- found
      have hAt' := hAt
      obtain ⟨g1, g2, g3, g4, g5, g6, g7, g8, g9⟩ := hAt
      have hvl := ct_At_vl hT hWW hAt'
      have hFk := ct_Fk_of fs d x _ g2 hcl hcr
      refine br_f (by decide) ?_
      show wX_put_40 post (ct_i key) (ct_i v) (ct_i 1) (ct_i ((fs.length : Int) + 1)) (ct_c ((ct_wy A ((fs.length : Int) + 1) f g) 1)) (ct_c ((ct_wy A ((fs.length : Int) + 1) f g) 2)) (ct_a ((ct_wy A ((fs.length : Int) + 1) f g) 3)) (ct_c ((ct_wy A ((fs.length : Int) + 1) f g) 4)) (ct_a ((ct_wy A ((fs.length : Int) + 1) f g) 5)) (ct_a ((ct_wy A ((fs.length : Int) + 1) f g) 6)) (ct_c ((ct_wy A ((fs.length : Int) + 1) f g) 7)) (ct_c ((ct_wy A ((fs.length : Int) + 1) f g) 8)) (ct_a ((ct_wy A ((fs.length : Int) + 1) f g) 9)) (ct_a ((ct_wy A ((fs.length : Int) + 1) f g) 10)) (ct_c ((ct_wy A ((fs.length : Int) + 1) f g) 11)) (ct_c ((ct_wy A ((fs.length : Int) + 1) f g) 12)) (ct_a ((ct_wy A ((fs.length : Int) + 1) f g) 13)) (ct_c ((ct_wy A ((fs.length : Int) + 1) f g) 14)) (ct_c ((ct_wy A ((fs.length : Int) + 1) f g) 15)) (ct_c ((ct_wy A ((fs.length : Int) + 1) f g) 16))
      unfold wX_put_40
      refine ct_copyWay (A := A) hz hT.2.1 hT.2.2.1 (by omega) hAt' (by omega) (fun A' f' gs x' hz' hl1 hl2 hfr hxf hw' hfx hgl hky hnd hOt => ?_)
      have hxr := hz'.2.2.2.1 x' (List.mem_append.mpr (Or.inl (ct_pg_self _ _ _)))
      have hlen : (ct_nd A' x').1.length = ka.length + (kb.length + 1) := by rw [hnd]; simp
      obtain ⟨P, S, k1, k2, k3, k4⟩ := ct_Z_pat (k := key) (v := v) hz' hnd hxf
      refine nm_r (e' := ct_i (fs.length : Int)) (by show ct_i ((fs.length : Int) + 1) - 1 = _; rw [ct_l1, ct_sub]; congr 1; omega) (br_f (by decide) ?_)
      have e14 : ct_c f' (ct_i (fs.length : Int)).toNatClampNeg = ct_i x' := by rw [ct_rc (by omega) (by omega), hfx, ct_bI (by omega) (by omega)]
      have e15 : ct_c g (ct_i (fs.length : Int)).toNatClampNeg = ct_i (ka.length : Int) := by rw [ct_rc (by omega) (by omega), g9, ct_bI (by omega) (by omega)]
      show vp_in (ct_i (fs.length : Int)) 8 ∧ vp_in (ct_i (fs.length : Int)) 8 ∧ vp_in (5 * ct_c f' (ct_i (fs.length : Int)).toNatClampNeg + ct_c g (ct_i (fs.length : Int)).toNatClampNeg) 500 ∧ ∀ a3 : Nat → Int32, a3 = upd (ct_a (A' 3)) (5 * ct_c f' (ct_i (fs.length : Int)).toNatClampNeg + ct_c g (ct_i (fs.length : Int)).toNatClampNeg).toNatClampNeg (ct_i v) → _
      rw [e14, e15, ct_l5, ct_mul, ct_add, ct_wr (by omega) (by omega)]
      refine ⟨ct_in (by omega) (by omega) (by decide), ct_in (by omega) (by omega) (by decide), ct_in (by omega) (by omega) (by decide), nm_e ?_⟩
      have hkv := ct_nd_kv (A := A') (x := x') hnd
      have e2 : ct_up (A' 2) (5 * x' + ka.length) key = A' 2 := by
        have : A' 2 (5 * x' + ka.length) = key := hkv.1
        rw [← this]; exact ct_up_self
      have hWeq : W = ct_CL (ct_nd A') d gs ++ ((P ++ (key, w) :: S) ++ ct_CR (ct_nd A') d gs) := by rw [← k1]; exact hz'.2.2.2.2.2.1.symm
      have hso : ct_so (ct_CL (ct_nd A') d gs ++ ((P ++ (key, w) :: S) ++ ct_CR (ct_nd A') d gs)) := by rw [← hWeq]; exact hWW.1
      have hso1 := ct_so_app hso
      have hso2 := ct_so_app hso1.2.1
      have hso3 := ct_so_app hso2.1
      have hlt : ∀ e, e ∈ ct_CL (ct_nd A') d gs ++ P → e.1 < key := by
        intro e he
        rcases List.mem_append.mp he with h | h
        · exact hso1.2.2 e h (key, w) (by simp)
        · exact hso3.2.2 e h (key, w) (by simp)
      have hpu : ct_pu key v W = ct_CL (ct_nd A') d gs ++ ((P ++ (key, v) :: S) ++ ct_CR (ct_nd A') d gs) := by
        have := ct_pu_set (k := key) (v := v) (w := w) (S := S ++ ct_CR (ct_nd A') d gs) (ct_CL (ct_nd A') d gs ++ P) hlt
        rw [hWeq]
        simp only [List.append_assoc, List.cons_append] at this ⊢
        exact this
      have hlw : (ct_pu key v W).length = W.length := by rw [hpu]; rw [hWeq]; simp
      rw [← hpu] at k2
      have hfin := hp0 ⟨w, hvl.1⟩ (ct_pat A' x' ka.length key v) ((fs.length : Int) + 1) f' g (ct_Res_Z k2 (by rw [k3]; simp; omega) (by rw [k3]; simp; omega) (ct_Ot_t hOt k4)) hlw
      have e2' : ct_pat A' x' ka.length key v 2 = A' 2 := e2
      have hc : ct_lf (ct_wy (ct_pat A' x' ka.length key v) ((fs.length : Int) + 1) f' g) = ct_lf (ct_wy (ct_st A' 3 (ct_up (A' 3) (5 * x' + ka.length) v)) ((fs.length : Int) + 1) f' g) := by
        unfold ct_pat
        rw [e2]
        rfl
      rw [hc] at hfin
      exact hfin
    · -- not found
      have hAt' := hAt
      obtain ⟨g1, g2, g3, g4, g5, g6, g7, g8, g9⟩ := hAt
      have hfl := ct_Cx_fl fs 0 x _ g2
      rw [g1, hT.2.2.2.2.2.2] at hfl
      have hfx0 : ct_fl (ct_nd A) 0 x = ka ++ kb := g6
      rw [hfx0] at hfl
      have hno : ∀ e, e ∈ W → e.1 ≠ key := by
        intro e he
        rw [hfl] at he
        simp only [List.mem_append] at he hcl hcr
        rcases he with h | ((h | h) | h)
        · have := hcl e (Or.inl h); omega
        · have := hcl e (Or.inr h); omega
        · have := hcr e (Or.inl h); omega
        · have := hcr e (Or.inr h); omega
      refine br_t rfl ?_
      show (ct_c (A 12) 3 < 24 → wX_put_40 post (ct_i key) (ct_i v) (ct_i 0) (ct_i ((fs.length : Int) + 1)) (ct_c ((ct_wy A ((fs.length : Int) + 1) f g) 1)) (ct_c ((ct_wy A ((fs.length : Int) + 1) f g) 2)) (ct_a ((ct_wy A ((fs.length : Int) + 1) f g) 3)) (ct_c ((ct_wy A ((fs.length : Int) + 1) f g) 4)) (ct_a ((ct_wy A ((fs.length : Int) + 1) f g) 5)) (ct_a ((ct_wy A ((fs.length : Int) + 1) f g) 6)) (ct_c ((ct_wy A ((fs.length : Int) + 1) f g) 7)) (ct_c ((ct_wy A ((fs.length : Int) + 1) f g) 8)) (ct_a ((ct_wy A ((fs.length : Int) + 1) f g) 9)) (ct_a ((ct_wy A ((fs.length : Int) + 1) f g) 10)) (ct_c ((ct_wy A ((fs.length : Int) + 1) f g) 11)) (ct_c ((ct_wy A ((fs.length : Int) + 1) f g) 12)) (ct_a ((ct_wy A ((fs.length : Int) + 1) f g) 13)) (ct_c ((ct_wy A ((fs.length : Int) + 1) f g) 14)) (ct_c ((ct_wy A ((fs.length : Int) + 1) f g) 15)) (ct_c ((ct_wy A ((fs.length : Int) + 1) f g) 16))) ∧ (¬ ct_c (A 12) 3 < 24 → post (-2) (ct_lf (ct_wy A ((fs.length : Int) + 1) f g)))
      rw [e12, h12, ct_l24, ct_lt (by omega) (by omega) (by omega) (by omega)]
      refine br_c (fun hlt => ?_) (fun hge => hp2 hno (by omega) _ _ _)
      have hFk := ct_Fk_of fs 0 x _ g2 (fun e he => hcl e (List.mem_append.mpr (Or.inl he))) (fun e he => hcr e (List.mem_append.mpr (Or.inr he)))
      unfold wX_put_40
      refine ct_copyWay (A := A) hz hT.2.1 hT.2.2.1 (by omega) hAt' (by omega) (fun A' f' gs x' hz' hl1 hl2 hfr hxf hw' hfx hgl hky hnd hOt => ?_)
      refine nm_r (e' := ct_i (fs.length : Int)) (by show ct_i ((fs.length : Int) + 1) - 1 = _; rw [ct_l1, ct_sub]; congr 1; omega) (br_t rfl ?_)
      have hWeq : W = ct_CL (ct_nd A') 0 gs ++ ((ka ++ kb) ++ ct_CR (ct_nd A') 0 gs) := by
        have : ct_fl (ct_nd A') 0 x' = ka ++ kb := hnd
        rw [← this]; exact hz'.2.2.2.2.2.1.symm
      have hso : ct_so (ct_CL (ct_nd A') 0 gs ++ ((ka ++ kb) ++ ct_CR (ct_nd A') 0 gs)) := by rw [← hWeq]; exact hWW.1
      have hso1 := ct_so_app hso
      have hso2 := ct_so_app hso1.2.1
      rw [← hky] at hFk
      obtain ⟨q1, q2⟩ := ct_Fk_CL gs 0 x' _ hz'.1 hso1.1 hso2.2.1 hFk
      have hpu : ct_pu key v W = ct_CL (ct_nd A') 0 gs ++ ((ka ++ (key, v) :: kb) ++ ct_CR (ct_nd A') 0 gs) := by
        have := ct_pu_new (k := key) (v := v) (S := kb ++ ct_CR (ct_nd A') 0 gs) (fun e he => by
          rcases List.mem_append.mp he with h | h
          · exact hcr e (List.mem_append.mpr (Or.inl h))
          · exact q2 e h) (ct_CL (ct_nd A') 0 gs ++ ka) (fun e he => by
          rcases List.mem_append.mp he with h | h
          · exact q1 e h
          · exact hcl e (List.mem_append.mpr (Or.inr h)))
        rw [hWeq]
        simp only [List.append_assoc, List.cons_append] at this ⊢
        exact this
      have hlw : (ct_pu key v W).length = W.length + 1 := by rw [hpu]; rw [hWeq]; simp; omega
      rw [← hgl]
      refine ct_insert (A := A') (ka := ka) (kb := kb) (W' := ct_pu key v W) hz' hnd hl2 (by omega) hfr hxf hw' (by rw [hgl]; exact hfx) (by rw [hgl]; exact g9) (by omega) hpu.symm (by omega) (fun B d fs' x'' hB1 hB2 hB3 hB4 => ?_)
      refine nm_r (h12c B (ct_Ot_t hOt hB4)) ?_
      exact hp1 hno (by omega) B _ f' g (ct_Res_Z hB1 hB2 hB3 (ct_Ot_t hOt hB4)) hlw
end
section
/-! ===== 23: takeFromLeft, takeFromRight, melt: the walks ===== -/
def ct_tl4 (A : Nat → Int → Int) (x y : Int) : Nat → Int → Int := if A 4 (6 * x) < 0 then A else ct_st A 4 (ct_up (ct_sR (A 4) (6 * x) (6 * x + (A 1 x + 1))) (6 * x) (A 4 (6 * y + A 1 y)))
def ct_tlk (A : Nat → Int → Int) (p i x y : Int) : Nat → Int → Int := ct_st (ct_pat (ct_ins A x 0 (A 2 (5 * p + i - 1)) (A 3 (5 * p + i - 1))) p (i - 1) (A 2 (5 * y + A 1 y - 1)) (A 3 (5 * y + A 1 y - 1))) 1 (ct_up (ct_up (A 1) x (A 1 x + 1)) y (A 1 y - 1))
theorem ct_tfl_113 {post : St1 → Prop} {A : Nat → Int → Int} {p i x y : Int} (hx0 : 0 ≤ x) (hx1 : x < 100) (hy0 : 0 ≤ y) (hy1 : y < 100) (hp0 : 0 ≤ p) (hp1 : p < 100) (hpx : p ≠ x) (hpy : p ≠ y) (hxy : x ≠ y) (hi1 : 1 ≤ i) (hi4 : i ≤ 4) (hn0 : 0 ≤ A 1 x) (hn : A 1 x ≤ 4) (hm0 : 1 ≤ A 1 y) (hm : A 1 y ≤ 5) (hp : post (ct_lf (ct_tlk A p i x y))) : wX_takeFromLeft_113 post (ct_i p) (ct_i i) (ct_i x) (ct_i y) (ct_i (A 1 y)) (ct_i (A 0 0)) (ct_c (A 1)) (ct_c (A 2)) (ct_a (A 3)) (ct_c (A 4)) (ct_a (A 5)) (ct_a (A 6)) (ct_c (A 7)) (ct_c (A 8)) (ct_a (A 9)) (ct_a (A 10)) (ct_c (A 11)) (ct_c (A 12)) (ct_a (A 13)) (ct_c (A 14)) (ct_c (A 15)) (ct_c (A 16)) := by
  unfold wX_takeFromLeft_113
  refine ct_openPlace (A := A) (i := 0) hx0 hx1 (by omega) hn0 hn ?_
  have ep : (5 : Int32) * ct_i p + ct_i i - 1 = ct_i (5 * p + i - 1) := by rw [ct_l5, ct_l1, ct_mul, ct_add, ct_sub]
  have ey : (5 : Int32) * ct_i y + ct_i (A 1 y) - 1 = ct_i (5 * y + A 1 y - 1) := by rw [ct_l5, ct_l1, ct_mul, ct_add, ct_sub]
  have ei : ct_i i - 1 = ct_i (i - 1) := by rw [ct_l1, ct_sub]
  have r2 : ct_c (ct_sR (A 2) (5 * x + 0) (5 * x + A 1 x)) (ct_i (5 * p + i - 1)).toNatClampNeg = ct_b (A 2 (5 * p + i - 1)) := by rw [ct_rc (by omega) (by omega), ct_sR_lo (by omega)]
  have r3 : ct_a (ct_sR (A 3) (5 * x + 0) (5 * x + A 1 x)) (ct_i (5 * p + i - 1)).toNatClampNeg = ct_i (A 3 (5 * p + i - 1)) := by rw [ct_rd (by omega) (by omega), ct_sR_lo (by omega)]
  rw [ep]
  refine ⟨ct_in (by omega) (by omega) (by decide), ct_in (by omega) (by omega) (by decide), ?_⟩
  refine ct_putAt (A := ct_opn A x 0) (i := 0) (A 2 (5 * p + i - 1)) (A 3 (5 * p + i - 1)) (by omega) (by omega) (Eq.trans (congrArg (fun z : Int32 => z.toInt8.toInt32) r2) (ct_tbb _)) r3 ?_
  rw [ey]
  have q2 : ct_c (ct_up (ct_sR (A 2) (5 * x + 0) (5 * x + A 1 x)) (5 * x + 0) (A 2 (5 * p + i - 1))) (ct_i (5 * y + A 1 y - 1)).toNatClampNeg = ct_b (A 2 (5 * y + A 1 y - 1)) := by rw [ct_rc (by omega) (by omega), ct_un (by omega), ct_sR_lo (by omega)]
  have q3 : ct_a (ct_up (ct_sR (A 3) (5 * x + 0) (5 * x + A 1 x)) (5 * x + 0) (A 3 (5 * p + i - 1))) (ct_i (5 * y + A 1 y - 1)).toNatClampNeg = ct_i (A 3 (5 * y + A 1 y - 1)) := by rw [ct_rd (by omega) (by omega), ct_un (by omega), ct_sR_lo (by omega)]
  refine ⟨ct_in (by omega) (by omega) (by decide), ct_in (by omega) (by omega) (by decide), ?_⟩
  rw [ei]
  refine ct_putAt (A := ct_pat (ct_opn A x 0) x 0 (A 2 (5 * p + i - 1)) (A 3 (5 * p + i - 1))) (i := i - 1) (A 2 (5 * y + A 1 y - 1)) (A 3 (5 * y + A 1 y - 1)) (by omega) (by omega) (Eq.trans (congrArg (fun z : Int32 => z.toInt8.toInt32) q2) (ct_tbb _)) q3 ?_
  refine ⟨ct_in hy0 (by omega) (by decide), ct_in hy0 (by omega) (by decide), nm_r (e' := ct_c (ct_up (ct_up (A 1) x (A 1 x + 1)) y (A 1 y - 1))) ?_ hp⟩
  show upd (ct_c (ct_up (A 1) x (A 1 x + 1))) (ct_i y).toNatClampNeg ((ct_c (ct_up (A 1) x (A 1 x + 1)) (ct_i y).toNatClampNeg - 1).toInt8.toInt32) = _
  rw [ct_rc hy0 (by omega), ct_un (fun e => hxy e.symm), ct_bI (by omega) (by omega), ct_l1, ct_sub, ct_tb, ct_wc hy0 (by omega)]
theorem ct_tfl_54 {post : St1 → Prop} {A : Nat → Int → Int} {p i x y z : Int} (hx0 : 0 ≤ x) (hx1 : x < 100) (hy0 : 0 ≤ y) (hy1 : y < 100) (hxy : x ≠ y) (hn : A 1 x ≤ 4) (hm0 : 0 ≤ A 1 y) (hm : A 1 y ≤ 5)
    (hp : wX_takeFromLeft_113 post (ct_i p) (ct_i i) (ct_i x) (ct_i y) (ct_i (A 1 y)) (ct_i (A 0 0)) (ct_c ((ct_st A 4 (ct_up (ct_sR (A 4) (6 * x) (6 * x + (A 1 x + 1))) (6 * x) (A 4 (6 * y + A 1 y)))) 1)) (ct_c ((ct_st A 4 (ct_up (ct_sR (A 4) (6 * x) (6 * x + (A 1 x + 1))) (6 * x) (A 4 (6 * y + A 1 y)))) 2)) (ct_a ((ct_st A 4 (ct_up (ct_sR (A 4) (6 * x) (6 * x + (A 1 x + 1))) (6 * x) (A 4 (6 * y + A 1 y)))) 3)) (ct_c ((ct_st A 4 (ct_up (ct_sR (A 4) (6 * x) (6 * x + (A 1 x + 1))) (6 * x) (A 4 (6 * y + A 1 y)))) 4)) (ct_a ((ct_st A 4 (ct_up (ct_sR (A 4) (6 * x) (6 * x + (A 1 x + 1))) (6 * x) (A 4 (6 * y + A 1 y)))) 5)) (ct_a ((ct_st A 4 (ct_up (ct_sR (A 4) (6 * x) (6 * x + (A 1 x + 1))) (6 * x) (A 4 (6 * y + A 1 y)))) 6)) (ct_c ((ct_st A 4 (ct_up (ct_sR (A 4) (6 * x) (6 * x + (A 1 x + 1))) (6 * x) (A 4 (6 * y + A 1 y)))) 7)) (ct_c ((ct_st A 4 (ct_up (ct_sR (A 4) (6 * x) (6 * x + (A 1 x + 1))) (6 * x) (A 4 (6 * y + A 1 y)))) 8)) (ct_a ((ct_st A 4 (ct_up (ct_sR (A 4) (6 * x) (6 * x + (A 1 x + 1))) (6 * x) (A 4 (6 * y + A 1 y)))) 9)) (ct_a ((ct_st A 4 (ct_up (ct_sR (A 4) (6 * x) (6 * x + (A 1 x + 1))) (6 * x) (A 4 (6 * y + A 1 y)))) 10)) (ct_c ((ct_st A 4 (ct_up (ct_sR (A 4) (6 * x) (6 * x + (A 1 x + 1))) (6 * x) (A 4 (6 * y + A 1 y)))) 11)) (ct_c ((ct_st A 4 (ct_up (ct_sR (A 4) (6 * x) (6 * x + (A 1 x + 1))) (6 * x) (A 4 (6 * y + A 1 y)))) 12)) (ct_a ((ct_st A 4 (ct_up (ct_sR (A 4) (6 * x) (6 * x + (A 1 x + 1))) (6 * x) (A 4 (6 * y + A 1 y)))) 13)) (ct_c ((ct_st A 4 (ct_up (ct_sR (A 4) (6 * x) (6 * x + (A 1 x + 1))) (6 * x) (A 4 (6 * y + A 1 y)))) 14)) (ct_c ((ct_st A 4 (ct_up (ct_sR (A 4) (6 * x) (6 * x + (A 1 x + 1))) (6 * x) (A 4 (6 * y + A 1 y)))) 15)) (ct_c ((ct_st A 4 (ct_up (ct_sR (A 4) (6 * x) (6 * x + (A 1 x + 1))) (6 * x) (A 4 (6 * y + A 1 y)))) 16))) :
    ∀ (m : Nat) (k : Int), k = m → k ≤ A 1 x + 1 → wX_takeFromLeft_54 post (ct_i p) (ct_i i) (ct_i x) (ct_i y) (ct_i (A 1 y)) (ct_i (A 0 0)) (m + 1) (ct_i k) (ct_c ((ct_st A 4 (ct_sR (A 4) (6 * x + k) (6 * x + (A 1 x + 1)))) 1)) (ct_c ((ct_st A 4 (ct_sR (A 4) (6 * x + k) (6 * x + (A 1 x + 1)))) 2)) (ct_a ((ct_st A 4 (ct_sR (A 4) (6 * x + k) (6 * x + (A 1 x + 1)))) 3)) (ct_c ((ct_st A 4 (ct_sR (A 4) (6 * x + k) (6 * x + (A 1 x + 1)))) 4)) (ct_a ((ct_st A 4 (ct_sR (A 4) (6 * x + k) (6 * x + (A 1 x + 1)))) 5)) (ct_a ((ct_st A 4 (ct_sR (A 4) (6 * x + k) (6 * x + (A 1 x + 1)))) 6)) (ct_c ((ct_st A 4 (ct_sR (A 4) (6 * x + k) (6 * x + (A 1 x + 1)))) 7)) (ct_c ((ct_st A 4 (ct_sR (A 4) (6 * x + k) (6 * x + (A 1 x + 1)))) 8)) (ct_a ((ct_st A 4 (ct_sR (A 4) (6 * x + k) (6 * x + (A 1 x + 1)))) 9)) (ct_a ((ct_st A 4 (ct_sR (A 4) (6 * x + k) (6 * x + (A 1 x + 1)))) 10)) (ct_c ((ct_st A 4 (ct_sR (A 4) (6 * x + k) (6 * x + (A 1 x + 1)))) 11)) (ct_c ((ct_st A 4 (ct_sR (A 4) (6 * x + k) (6 * x + (A 1 x + 1)))) 12)) (ct_a ((ct_st A 4 (ct_sR (A 4) (6 * x + k) (6 * x + (A 1 x + 1)))) 13)) (ct_c ((ct_st A 4 (ct_sR (A 4) (6 * x + k) (6 * x + (A 1 x + 1)))) 14)) (ct_c ((ct_st A 4 (ct_sR (A 4) (6 * x + k) (6 * x + (A 1 x + 1)))) 15)) (ct_c ((ct_st A 4 (ct_sR (A 4) (6 * x + k) (6 * x + (A 1 x + 1)))) 16)) := by
  intro m
  induction m with
  | zero =>
    intro k hk hkn
    have e : k = 0 := by omega
    subst e
    unfold wX_takeFromLeft_54
    refine br_t (by decide) ?_
    have ey : (6 : Int32) * ct_i y + ct_i (A 1 y) = ct_i (6 * y + A 1 y) := by rw [ct_l6, ct_mul, ct_add]
    have ex : (6 : Int32) * ct_i x = ct_i (6 * x) := by rw [ct_l6, ct_mul]
    rw [ey, ex]
    rw [Int.add_zero]
    refine ⟨ct_in (by omega) (by omega) (by decide), ct_in (by omega) (by omega) (by decide), nm_r (e' := ct_c (ct_up (ct_sR (A 4) (6 * x) (6 * x + (A 1 x + 1))) (6 * x) (A 4 (6 * y + A 1 y)))) ?_ hp⟩
    show upd (ct_c (ct_sR (A 4) (6 * x) (6 * x + (A 1 x + 1)))) (ct_i (6 * x)).toNatClampNeg (vp_nar .byte (ct_c (ct_sR (A 4) (6 * x) (6 * x + (A 1 x + 1))) (ct_i (6 * y + A 1 y)).toNatClampNeg)) = _
    rw [ct_rc (by omega) (by omega), ct_sR_lo (by omega), ct_nb, ct_wc (by omega) (by omega)]
  | succ m ih =>
    intro k hk hkn
    unfold wX_takeFromLeft_54
    refine br_f ?_ ?_
    · rw [ct_l0, ct_le (by omega) (by omega) (by omega) (by omega)]; omega
    · simp (disch := omega) only [ct_l0, ct_l1, ct_l2, ct_l3, ct_l4, ct_l5, ct_l6, ct_l24, ct_l25, ct_l99, ct_l100, ct_neg, ct_add, ct_sub, ct_mul, ct_inT, ct_rd, ct_rc, ct_wr, ct_wc, ct_wci, ct_bI, ct_nb, ct_nbi, ct_tb, ct_le, ct_lt, ct_eq, ct_rc0, ct_rc1, ct_rc3, ct_rd0, ct_rd1, ct_wc3, ct_wc3i, ct_wc0, ct_wc0i, ct_wr0, true_and, forall_eq]
      have := ih (k - 1) (by omega) (by omega)
      rw [show 6 * x + (k - 1) = 6 * x + k - 1 by omega, ← ct_sR_up (by omega)] at this
      exact this
theorem ct_takeFromLeft {post : St1 → Prop} {A : Nat → Int → Int} {p i x y : Int} (hx0 : 0 ≤ x) (hx1 : x < 100) (hy0 : 0 ≤ y) (hy1 : y < 100) (hp0 : 0 ≤ p) (hp1 : p < 100) (hpx : p ≠ x) (hpy : p ≠ y) (hxy : x ≠ y) (hi1 : 1 ≤ i) (hi4 : i ≤ 4) (hn0 : 0 ≤ A 1 x) (hn : A 1 x ≤ 4) (hm0 : 1 ≤ A 1 y) (hm : A 1 y ≤ 5) (hcx : A 4 (6 * p + i) = x) (hcy : A 4 (6 * p + i - 1) = y) (hb : -128 ≤ A 4 (6 * x) ∧ A 4 (6 * x) < 128) (hp : post (ct_lf (ct_tlk (ct_tl4 A x y) p i x y))) : wpX_takeFromLeft post (ct_lf A) (ct_i p) (ct_i i) := by
  have ex : (6 : Int32) * ct_i p + ct_i i = ct_i (6 * p + i) := by rw [ct_l6, ct_mul, ct_add]
  have em : ct_i (6 * p + i) - 1 = ct_i (6 * p + i - 1) := by rw [ct_l1, ct_sub]
  unfold wpX_takeFromLeft ct_lf
  dsimp only
  rw [ex, em]
  refine ⟨ct_in (by omega) (by omega) (by decide), nm_r (e' := ct_i x) (by rw [ct_rc (by omega) (by omega), hcx, ct_bI (by omega) (by omega)]) ⟨ct_in (by omega) (by omega) (by decide), nm_r (e' := ct_i y) (by rw [ct_rc (by omega) (by omega), hcy, ct_bI (by omega) (by omega)]) ⟨ct_in hy0 (by omega) (by decide), nm_r (e' := ct_i (A 1 y)) (by rw [ct_rc hy0 (by omega), ct_bI (by omega) (by omega)]) ?_⟩⟩⟩
  refine ct_isLeaf (A := A) hx0 hx1 hb ?_
  by_cases h : A 4 (6 * x) < 0
  · rw [if_pos h]
    unfold ct_tl4 at hp
    rw [if_pos h] at hp
    exact br_f (by decide) (ct_tfl_113 hx0 hx1 hy0 hy1 hp0 hp1 hpx hpy hxy hi1 hi4 hn0 hn hm0 hm hp)
  · rw [if_neg h]
    unfold ct_tl4 at hp
    rw [if_neg h] at hp
    refine br_t rfl ⟨ct_in hx0 (by omega) (by decide), nm_r (e' := ct_i (A 1 x + 1)) (by rw [ct_rc hx0 (by omega), ct_bI (by omega) (by omega), ct_l1, ct_add]) ⟨(A 1 x + 1).toNat + 1, ?_⟩⟩
    have := ct_tfl_54 (p := p) (i := i) (z := 0) hx0 hx1 hy0 hy1 hxy hn (by omega) hm (ct_tfl_113 (A := ct_st A 4 (ct_up (ct_sR (A 4) (6 * x) (6 * x + (A 1 x + 1))) (6 * x) (A 4 (6 * y + A 1 y)))) hx0 hx1 hy0 hy1 hp0 hp1 hpx hpy hxy hi1 hi4 hn0 hn hm0 hm hp) (A 1 x + 1).toNat (A 1 x + 1) (by omega) (by omega)
    rw [ct_sR_0] at this
    exact this
/-- takeFromRight -/
def ct_tr4 (A : Nat → Int → Int) (x y : Int) : Nat → Int → Int := if A 4 (6 * x) < 0 then A else ct_st A 4 (ct_up (A 4) (6 * x + A 1 x + 1) (A 4 (6 * y)))
def ct_trp (A : Nat → Int → Int) (p i x y : Int) : Nat → Int → Int := ct_pat (ct_st A 1 (ct_up (A 1) x (A 1 x + 1))) p i (A 2 (5 * y)) (A 3 (5 * y))
def ct_trs (A : Nat → Int → Int) (y : Int) : Nat → Int → Int := if A 4 (6 * y) < 0 then A else ct_st A 4 (ct_sL (A 4) (6 * y) (6 * y + A 1 y))
def ct_trk (A : Nat → Int → Int) (p i x y : Int) : Nat → Int → Int := ct_clp (ct_trs (ct_trp (ct_tr4 (ct_pat A x (A 1 x) (A 2 (5 * p + i)) (A 3 (5 * p + i))) x y) p i x y) y) y 0
theorem ct_tfr_187 {post : St1 → Prop} {A : Nat → Int → Int} {y : Int} (hy0 : 0 ≤ y) (hy1 : y < 100) (hm0 : 0 < A 1 y) (hm : A 1 y ≤ 5) (hp : post (ct_lf (ct_clp A y 0))) : wX_takeFromRight_187 post (ct_i y) (ct_i (A 0 0)) (ct_c (A 1)) (ct_c (A 2)) (ct_a (A 3)) (ct_c (A 4)) (ct_a (A 5)) (ct_a (A 6)) (ct_c (A 7)) (ct_c (A 8)) (ct_a (A 9)) (ct_a (A 10)) (ct_c (A 11)) (ct_c (A 12)) (ct_a (A 13)) (ct_c (A 14)) (ct_c (A 15)) (ct_c (A 16)) := by
  unfold wX_takeFromRight_187
  exact ct_closePlace (A := A) (i := 0) hy0 hy1 (by omega) hm0 hm hp
theorem ct_tfr_141 {post : St1 → Prop} {A : Nat → Int → Int} {y : Int} (hy0 : 0 ≤ y) (hy1 : y < 100) (hm0 : 0 < A 1 y) (hm : A 1 y ≤ 4) (hp : post (ct_lf (ct_clp (ct_st A 4 (ct_sL (A 4) (6 * y) (6 * y + A 1 y))) y 0))) : ∀ (m : Nat) (k : Int), 0 ≤ k → k + m = A 1 y → wX_takeFromRight_141 post (ct_i y) (ct_i (A 0 0)) (m + 1) (ct_i k) (ct_c ((ct_st A 4 (ct_sL (A 4) (6 * y) (6 * y + k))) 1)) (ct_c ((ct_st A 4 (ct_sL (A 4) (6 * y) (6 * y + k))) 2)) (ct_a ((ct_st A 4 (ct_sL (A 4) (6 * y) (6 * y + k))) 3)) (ct_c ((ct_st A 4 (ct_sL (A 4) (6 * y) (6 * y + k))) 4)) (ct_a ((ct_st A 4 (ct_sL (A 4) (6 * y) (6 * y + k))) 5)) (ct_a ((ct_st A 4 (ct_sL (A 4) (6 * y) (6 * y + k))) 6)) (ct_c ((ct_st A 4 (ct_sL (A 4) (6 * y) (6 * y + k))) 7)) (ct_c ((ct_st A 4 (ct_sL (A 4) (6 * y) (6 * y + k))) 8)) (ct_a ((ct_st A 4 (ct_sL (A 4) (6 * y) (6 * y + k))) 9)) (ct_a ((ct_st A 4 (ct_sL (A 4) (6 * y) (6 * y + k))) 10)) (ct_c ((ct_st A 4 (ct_sL (A 4) (6 * y) (6 * y + k))) 11)) (ct_c ((ct_st A 4 (ct_sL (A 4) (6 * y) (6 * y + k))) 12)) (ct_a ((ct_st A 4 (ct_sL (A 4) (6 * y) (6 * y + k))) 13)) (ct_c ((ct_st A 4 (ct_sL (A 4) (6 * y) (6 * y + k))) 14)) (ct_c ((ct_st A 4 (ct_sL (A 4) (6 * y) (6 * y + k))) 15)) (ct_c ((ct_st A 4 (ct_sL (A 4) (6 * y) (6 * y + k))) 16)) := by
  intro m
  have hb : ct_c (A 1) (ct_i y).toNatClampNeg = ct_i (A 1 y) := by rw [ct_rc hy0 (by omega), ct_bI (by omega) (by omega)]
  induction m with
  | zero =>
    intro k hk0 hk
    have e : k = A 1 y := by omega
    subst e
    unfold wX_takeFromRight_141
    refine ⟨ct_in hy0 (by omega) (by decide), br_t ?_ (ct_tfr_187 (A := ct_st A 4 (ct_sL (A 4) (6 * y) (6 * y + A 1 y))) hy0 hy1 hm0 (by show A 1 y ≤ 5; omega) hp)⟩
    show ct_c (A 1) (ct_i y).toNatClampNeg ≤ _
    rw [hb, ct_le (by omega) (by omega) (by omega) (by omega)]; omega
  | succ m ih =>
    intro k hk0 hk
    unfold wX_takeFromRight_141
    refine ⟨ct_in hy0 (by omega) (by decide), br_f ?_ ?_⟩
    · show ¬ ct_c (A 1) (ct_i y).toNatClampNeg ≤ _
      rw [hb, ct_le (by omega) (by omega) (by omega) (by omega)]; omega
    · simp (disch := omega) only [ct_l0, ct_l1, ct_l2, ct_l3, ct_l4, ct_l5, ct_l6, ct_l24, ct_l25, ct_l99, ct_l100, ct_neg, ct_add, ct_sub, ct_mul, ct_inT, ct_rd, ct_rc, ct_wr, ct_wc, ct_wci, ct_bI, ct_nb, ct_nbi, ct_tb, ct_le, ct_lt, ct_eq, ct_rc0, ct_rc1, ct_rc3, ct_rd0, ct_rd1, ct_wc3, ct_wc3i, ct_wc0, ct_wc0i, ct_wr0, true_and, forall_eq]
      have := ih (k + 1) (by omega) (by omega)
      rw [show 6 * y + (k + 1) = 6 * y + k + 1 by omega, ← ct_sL_up (by omega)] at this
      exact this
theorem ct_tfr_94 {post : St1 → Prop} {A : Nat → Int → Int} {p i x y : Int} (hx0 : 0 ≤ x) (hx1 : x < 100) (hy0 : 0 ≤ y) (hy1 : y < 100) (hp0 : 0 ≤ p) (hp1 : p < 100) (hxy : x ≠ y) (hi1 : 0 ≤ i) (hi4 : i ≤ 4) (hn0 : 0 ≤ A 1 x) (hn : A 1 x ≤ 4) (hm0 : 1 ≤ A 1 y) (hm : A 1 y ≤ 4) (hb : -128 ≤ A 4 (6 * y) ∧ A 4 (6 * y) < 128) (hp : post (ct_lf (ct_clp (ct_trs (ct_trp A p i x y) y) y 0))) : wX_takeFromRight_94 post (ct_i p) (ct_i i) (ct_i x) (ct_i y) (ct_i (A 0 0)) (ct_c (A 1)) (ct_c (A 2)) (ct_a (A 3)) (ct_c (A 4)) (ct_a (A 5)) (ct_a (A 6)) (ct_c (A 7)) (ct_c (A 8)) (ct_a (A 9)) (ct_a (A 10)) (ct_c (A 11)) (ct_c (A 12)) (ct_a (A 13)) (ct_c (A 14)) (ct_c (A 15)) (ct_c (A 16)) := by
  have hA1 : ct_trp A p i x y 1 y = A 1 y := ct_un (fun e => hxy e.symm)
  have hA4 : ct_trp A p i x y 4 = A 4 := rfl
  have ey : (5 : Int32) * ct_i y = ct_i (5 * y) := by rw [ct_l5, ct_mul]
  unfold wX_takeFromRight_94
  refine ⟨ct_in hx0 (by omega) (by decide), ct_in hx0 (by omega) (by decide), nm_r (e' := ct_c (ct_up (A 1) x (A 1 x + 1))) (by rw [ct_rc hx0 (by omega), ct_bI (by omega) (by omega), ct_l1, ct_add, ct_tb, ct_wc hx0 (by omega)]) ?_⟩
  rw [ey]
  refine ⟨ct_in (by omega) (by omega) (by decide), ct_in (by omega) (by omega) (by decide), ?_⟩
  refine ct_putAt (A := ct_st A 1 (ct_up (A 1) x (A 1 x + 1))) (A 2 (5 * y)) (A 3 (5 * y)) (by omega) (by omega) (by rw [ct_rc (by omega) (by omega), ct_tbb]) (ct_rd (by omega) (by omega)) ?_
  refine ct_isLeaf (A := ct_trp A p i x y) hy0 hy1 hb ?_
  by_cases h : A 4 (6 * y) < 0
  · rw [if_pos (show ct_trp A p i x y 4 (6 * y) < 0 from h)]
    unfold ct_trs at hp
    rw [if_pos (show ct_trp A p i x y 4 (6 * y) < 0 from h)] at hp
    exact br_f (by decide) (ct_tfr_187 (A := ct_trp A p i x y) hy0 hy1 (by omega) (by omega) hp)
  · rw [if_neg (show ¬ ct_trp A p i x y 4 (6 * y) < 0 from h)]
    unfold ct_trs at hp
    rw [if_neg (show ¬ ct_trp A p i x y 4 (6 * y) < 0 from h)] at hp
    refine br_t rfl ⟨(A 1 y).toNat + 1, ?_⟩
    have := ct_tfr_141 (A := ct_trp A p i x y) hy0 hy1 (by omega) (by omega) hp (A 1 y).toNat 0 (by omega) (by omega)
    rw [Int.add_zero, ct_sL_0] at this
    exact this
theorem ct_takeFromRight {post : St1 → Prop} {A : Nat → Int → Int} {p i x y : Int} (hx0 : 0 ≤ x) (hx1 : x < 100) (hy0 : 0 ≤ y) (hy1 : y < 100) (hp0 : 0 ≤ p) (hp1 : p < 100) (hpx : p ≠ x) (hpy : p ≠ y) (hxy : x ≠ y) (hi1 : 0 ≤ i) (hi4 : i ≤ 4) (hn0 : 0 ≤ A 1 x) (hn : A 1 x ≤ 4) (hm0 : 1 ≤ A 1 y) (hm : A 1 y ≤ 4) (hcx : A 4 (6 * p + i) = x) (hcy : A 4 (6 * p + i + 1) = y) (hbx : -128 ≤ A 4 (6 * x) ∧ A 4 (6 * x) < 128) (hby : -128 ≤ A 4 (6 * y) ∧ A 4 (6 * y) < 128) (hp : post (ct_lf (ct_trk A p i x y))) : wpX_takeFromRight post (ct_lf A) (ct_i p) (ct_i i) := by
  have ex : (6 : Int32) * ct_i p + ct_i i = ct_i (6 * p + i) := by rw [ct_l6, ct_mul, ct_add]
  have em : ct_i (6 * p + i) + 1 = ct_i (6 * p + i + 1) := ct_add _ 1
  have e5 : (5 : Int32) * ct_i p + ct_i i = ct_i (5 * p + i) := by rw [ct_l5, ct_mul, ct_add]
  unfold wpX_takeFromRight
  show vp_in (6 * ct_i p + ct_i i) 600 ∧ ∀ x3 : Int32, x3 = ct_c (A 4) (6 * ct_i p + ct_i i).toNatClampNeg → vp_in (6 * ct_i p + ct_i i + 1) 600 ∧ ∀ x4 : Int32, x4 = ct_c (A 4) (6 * ct_i p + ct_i i + 1).toNatClampNeg → vp_in x3 100 ∧ ∀ x5 : Int32, x5 = ct_c (A 1) x3.toNatClampNeg → vp_in (5 * ct_i p + ct_i i) 500 ∧ vp_in (5 * ct_i p + ct_i i) 500 ∧ wpX_putAt _ (ct_lf A) x3 x5 (ct_c (A 2) (5 * ct_i p + ct_i i).toNatClampNeg) (ct_a (A 3) (5 * ct_i p + ct_i i).toNatClampNeg)
  rw [ex, em, e5]
  refine ⟨ct_in (by omega) (by omega) (by decide), nm_r (e' := ct_i x) (by rw [ct_rc (by omega) (by omega), hcx, ct_bI (by omega) (by omega)]) ⟨ct_in (by omega) (by omega) (by decide), nm_r (e' := ct_i y) (by rw [ct_rc (by omega) (by omega), hcy, ct_bI (by omega) (by omega)]) ⟨ct_in hx0 (by omega) (by decide), nm_r (e' := ct_i (A 1 x)) (by rw [ct_rc hx0 (by omega), ct_bI (by omega) (by omega)]) ⟨ct_in (by omega) (by omega) (by decide), ct_in (by omega) (by omega) (by decide), ?_⟩⟩⟩⟩
  refine ct_putAt (A := A) (A 2 (5 * p + i)) (A 3 (5 * p + i)) (by omega) (by omega) (by rw [ct_rc (by omega) (by omega), ct_tbb]) (ct_rd (by omega) (by omega)) ?_
  refine ct_isLeaf (A := ct_pat A x (A 1 x) (A 2 (5 * p + i)) (A 3 (5 * p + i))) hx0 hx1 hbx ?_
  have h2 : ∀ E : Nat → Int → Int, E 2 = ct_pat A x (A 1 x) (A 2 (5 * p + i)) (A 3 (5 * p + i)) 2 → E 1 = A 1 → True := fun _ _ _ => trivial
  unfold ct_trk ct_tr4 at hp
  by_cases h : A 4 (6 * x) < 0
  · rw [if_pos (show ct_pat A x (A 1 x) (A 2 (5 * p + i)) (A 3 (5 * p + i)) 4 (6 * x) < 0 from h)]
    rw [if_pos (show ct_pat A x (A 1 x) (A 2 (5 * p + i)) (A 3 (5 * p + i)) 4 (6 * x) < 0 from h)] at hp
    exact br_f (by decide) (ct_tfr_94 (A := ct_pat A x (A 1 x) (A 2 (5 * p + i)) (A 3 (5 * p + i))) hx0 hx1 hy0 hy1 hp0 hp1 hxy hi1 hi4 hn0 hn hm0 hm hby hp)
  · rw [if_neg (show ¬ ct_pat A x (A 1 x) (A 2 (5 * p + i)) (A 3 (5 * p + i)) 4 (6 * x) < 0 from h)]
    rw [if_neg (show ¬ ct_pat A x (A 1 x) (A 2 (5 * p + i)) (A 3 (5 * p + i)) 4 (6 * x) < 0 from h)] at hp
    have ey : (6 : Int32) * ct_i y = ct_i (6 * y) := by rw [ct_l6, ct_mul]
    have exx : (6 : Int32) * ct_i x + ct_i (A 1 x) + 1 = ct_i (6 * x + A 1 x + 1) := by rw [ct_l6, ct_l1, ct_mul, ct_add, ct_add]
    refine br_t rfl ?_
    rw [ey, exx]
    refine ⟨ct_in (by omega) (by omega) (by decide), ct_in (by omega) (by omega) (by decide), nm_r (e' := ct_c (ct_up (A 4) (6 * x + A 1 x + 1) (A 4 (6 * y)))) ?_ ?_⟩
    · show upd (ct_c (A 4)) (ct_i (6 * x + A 1 x + 1)).toNatClampNeg (vp_nar .byte (ct_c (A 4) (ct_i (6 * y)).toNatClampNeg)) = _
      rw [ct_rc (by omega) (by omega), ct_nb, ct_wc (by omega) (by omega)]
    · refine ct_tfr_94 (A := ct_st (ct_pat A x (A 1 x) (A 2 (5 * p + i)) (A 3 (5 * p + i))) 4 (ct_up (A 4) (6 * x + A 1 x + 1) (A 4 (6 * y)))) hx0 hx1 hy0 hy1 hp0 hp1 hxy hi1 hi4 hn0 hn hm0 hm ?_ hp
      show -128 ≤ ct_up (A 4) (6 * x + A 1 x + 1) (A 4 (6 * y)) (6 * y) ∧ ct_up (A 4) (6 * x + A 1 x + 1) (A 4 (6 * y)) (6 * y) < 128
      rw [ct_un (by omega)]; exact hby
end
section
/-! ===== 24: melt: the walk ===== -/
def ct_m1 (B : Nat → Int → Int) (x y e k : Int) : Nat → Int → Int := ct_st (ct_st B 2 (ct_cp (B 2) (5 * x + (e + 1)) (5 * y) k)) 3 (ct_cp (B 3) (5 * x + (e + 1)) (5 * y) k)
def ct_m2 (A : Nat → Int → Int) (x y e : Int) : Nat → Int → Int := if A 4 (6 * x) < 0 then A else ct_st A 4 (ct_cp (A 4) (6 * x + (e + 1)) (6 * y) (A 1 y + 1))
def ct_m3 (A : Nat → Int → Int) (p i x y e : Int) : Nat → Int → Int := ct_clp (ct_st A 1 (ct_up (A 1) x (e + 1 + A 1 y))) p i
def ct_m4 (A : Nat → Int → Int) (p i y : Int) : Nat → Int → Int := ct_st (ct_st A 4 (ct_sL (A 4) (6 * p + (i + 1)) (6 * p + (A 1 p + 1)))) 5 (ct_up (A 5) y 0)
/-- melt as a whole -/
def ct_mlt (A : Nat → Int → Int) (p i x y : Int) : Nat → Int → Int := ct_m4 (ct_m3 (ct_m2 (ct_m1 (ct_pat A x (A 1 x) (A 2 (5 * p + i)) (A 3 (5 * p + i))) x y (A 1 x) (A 1 y)) x y (A 1 x)) p i x y (A 1 x)) p i y
theorem ct_melt_208 {post : St1 → Prop} {A : Nat → Int → Int} {p i y : Int} (hp0 : 0 ≤ p) (hp1 : p < 100) (hy0 : 0 ≤ y) (hy1 : y < 100) (hi : 0 ≤ i) (hin : i ≤ A 1 p) (hn : A 1 p ≤ 3) (hp : post (ct_lf (ct_m4 A p i y))) : ∀ (m : Nat) (k : Int), i + 1 ≤ k → k + m = A 1 p + 1 → wX_melt_208 post (ct_i p) (ct_i y) (ct_i (A 0 0)) (m + 1) (ct_i k) (ct_c ((ct_st A 4 (ct_sL (A 4) (6 * p + (i + 1)) (6 * p + k))) 1)) (ct_c ((ct_st A 4 (ct_sL (A 4) (6 * p + (i + 1)) (6 * p + k))) 2)) (ct_a ((ct_st A 4 (ct_sL (A 4) (6 * p + (i + 1)) (6 * p + k))) 3)) (ct_c ((ct_st A 4 (ct_sL (A 4) (6 * p + (i + 1)) (6 * p + k))) 4)) (ct_a ((ct_st A 4 (ct_sL (A 4) (6 * p + (i + 1)) (6 * p + k))) 5)) (ct_a ((ct_st A 4 (ct_sL (A 4) (6 * p + (i + 1)) (6 * p + k))) 6)) (ct_c ((ct_st A 4 (ct_sL (A 4) (6 * p + (i + 1)) (6 * p + k))) 7)) (ct_c ((ct_st A 4 (ct_sL (A 4) (6 * p + (i + 1)) (6 * p + k))) 8)) (ct_a ((ct_st A 4 (ct_sL (A 4) (6 * p + (i + 1)) (6 * p + k))) 9)) (ct_a ((ct_st A 4 (ct_sL (A 4) (6 * p + (i + 1)) (6 * p + k))) 10)) (ct_c ((ct_st A 4 (ct_sL (A 4) (6 * p + (i + 1)) (6 * p + k))) 11)) (ct_c ((ct_st A 4 (ct_sL (A 4) (6 * p + (i + 1)) (6 * p + k))) 12)) (ct_a ((ct_st A 4 (ct_sL (A 4) (6 * p + (i + 1)) (6 * p + k))) 13)) (ct_c ((ct_st A 4 (ct_sL (A 4) (6 * p + (i + 1)) (6 * p + k))) 14)) (ct_c ((ct_st A 4 (ct_sL (A 4) (6 * p + (i + 1)) (6 * p + k))) 15)) (ct_c ((ct_st A 4 (ct_sL (A 4) (6 * p + (i + 1)) (6 * p + k))) 16)) := by
  intro m
  have hb : ct_c (A 1) (ct_i p).toNatClampNeg = ct_i (A 1 p) := by rw [ct_rc hp0 (by omega), ct_bI (by omega) (by omega)]
  induction m with
  | zero =>
    intro k hk0 hk
    have e : k = A 1 p + 1 := by omega
    subst e
    unfold wX_melt_208
    refine ⟨ct_in hp0 (by omega) (by decide), br_t ?_ ⟨ct_in hy0 (by omega) (by decide), nm_r (e' := ct_a (ct_up (A 5) y 0)) (ct_wr (v := 0) hy0 (by omega)) hp⟩⟩
    show ct_c (A 1) (ct_i p).toNatClampNeg < _
    rw [hb, ct_lt (by omega) (by omega) (by omega) (by omega)]; omega
  | succ m ih =>
    intro k hk0 hk
    unfold wX_melt_208
    refine ⟨ct_in hp0 (by omega) (by decide), br_f ?_ ?_⟩
    · show ¬ ct_c (A 1) (ct_i p).toNatClampNeg < _
      rw [hb, ct_lt (by omega) (by omega) (by omega) (by omega)]; omega
    · simp (disch := omega) only [ct_l0, ct_l1, ct_l2, ct_l3, ct_l4, ct_l5, ct_l6, ct_l24, ct_l25, ct_l99, ct_l100, ct_neg, ct_add, ct_sub, ct_mul, ct_inT, ct_rd, ct_rc, ct_wr, ct_wc, ct_wci, ct_bI, ct_nb, ct_nbi, ct_tb, ct_le, ct_lt, ct_eq, ct_rc0, ct_rc1, ct_rc3, ct_rd0, ct_rd1, ct_wc3, ct_wc3i, ct_wc0, ct_wc0i, ct_wr0, true_and, forall_eq]
      have := ih (k + 1) (by omega) (by omega)
      rw [show 6 * p + (k + 1) = 6 * p + k + 1 by omega, ← ct_sL_up (by omega)] at this
      exact this
theorem ct_melt_178 {post : St1 → Prop} {A : Nat → Int → Int} {p i x y e : Int} (hx0 : 0 ≤ x) (hx1 : x < 100) (hy0 : 0 ≤ y) (hy1 : y < 100) (hp0 : 0 ≤ p) (hp1 : p < 100) (hpx : p ≠ x) (hi : 0 ≤ i) (hin : i < A 1 p) (hn : A 1 p ≤ 4) (he0 : 0 ≤ e) (he : e ≤ 4) (hy2 : 0 ≤ A 1 y) (hy3 : A 1 y ≤ 5) (hp : post (ct_lf (ct_m4 (ct_m3 A p i x y e) p i y))) : wX_melt_178 post (ct_i p) (ct_i i) (ct_i x) (ct_i y) (ct_i e) (ct_i (A 0 0)) (ct_c (A 1)) (ct_c (A 2)) (ct_a (A 3)) (ct_c (A 4)) (ct_a (A 5)) (ct_a (A 6)) (ct_c (A 7)) (ct_c (A 8)) (ct_a (A 9)) (ct_a (A 10)) (ct_c (A 11)) (ct_c (A 12)) (ct_a (A 13)) (ct_c (A 14)) (ct_c (A 15)) (ct_c (A 16)) := by
  have hA1 : ct_st A 1 (ct_up (A 1) x (e + 1 + A 1 y)) 1 p = A 1 p := ct_un hpx
  have hA2 : ct_m3 A p i x y e 1 p = A 1 p - 1 := by
    show ct_up (ct_up (A 1) x (e + 1 + A 1 y)) p (ct_up (A 1) x (e + 1 + A 1 y) p - 1) p = A 1 p - 1
    rw [ct_us, ct_un hpx]
  unfold wX_melt_178
  refine ⟨ct_in hy0 (by omega) (by decide), ct_in hx0 (by omega) (by decide), nm_r (e' := ct_c (ct_up (A 1) x (e + 1 + A 1 y))) (by rw [ct_rc hy0 (by omega), ct_bI (by omega) (by omega), ct_l1, ct_add, ct_add, ct_tb, ct_wc hx0 (by omega)]) ?_⟩
  refine ct_closePlace (A := ct_st A 1 (ct_up (A 1) x (e + 1 + A 1 y))) hp0 hp1 hi (by omega) (by omega) ?_
  refine nm_r (e' := ct_i (i + 1)) (ct_add i 1) ⟨(A 1 p - 1 - i).toNat + 1, ?_⟩
  have := ct_melt_208 (A := ct_m3 A p i x y e) hp0 hp1 hy0 hy1 hi (by omega) (by omega) hp (A 1 p - 1 - i).toNat (i + 1) (by omega) (by omega)
  rw [ct_sL_0] at this
  exact this
theorem ct_melt_130 {post : St1 → Prop} {A : Nat → Int → Int} {p i x y e : Int} (hx0 : 0 ≤ x) (hx1 : x < 100) (hy0 : 0 ≤ y) (hy1 : y < 100) (hxy : x ≠ y) (he0 : 0 ≤ e) (hy2 : 0 ≤ A 1 y) (hye : e + 1 + A 1 y ≤ 5) (hp : wX_melt_178 post (ct_i p) (ct_i i) (ct_i x) (ct_i y) (ct_i e) (ct_i (A 0 0)) (ct_c ((ct_st A 4 (ct_cp (A 4) (6 * x + (e + 1)) (6 * y) (A 1 y + 1))) 1)) (ct_c ((ct_st A 4 (ct_cp (A 4) (6 * x + (e + 1)) (6 * y) (A 1 y + 1))) 2)) (ct_a ((ct_st A 4 (ct_cp (A 4) (6 * x + (e + 1)) (6 * y) (A 1 y + 1))) 3)) (ct_c ((ct_st A 4 (ct_cp (A 4) (6 * x + (e + 1)) (6 * y) (A 1 y + 1))) 4)) (ct_a ((ct_st A 4 (ct_cp (A 4) (6 * x + (e + 1)) (6 * y) (A 1 y + 1))) 5)) (ct_a ((ct_st A 4 (ct_cp (A 4) (6 * x + (e + 1)) (6 * y) (A 1 y + 1))) 6)) (ct_c ((ct_st A 4 (ct_cp (A 4) (6 * x + (e + 1)) (6 * y) (A 1 y + 1))) 7)) (ct_c ((ct_st A 4 (ct_cp (A 4) (6 * x + (e + 1)) (6 * y) (A 1 y + 1))) 8)) (ct_a ((ct_st A 4 (ct_cp (A 4) (6 * x + (e + 1)) (6 * y) (A 1 y + 1))) 9)) (ct_a ((ct_st A 4 (ct_cp (A 4) (6 * x + (e + 1)) (6 * y) (A 1 y + 1))) 10)) (ct_c ((ct_st A 4 (ct_cp (A 4) (6 * x + (e + 1)) (6 * y) (A 1 y + 1))) 11)) (ct_c ((ct_st A 4 (ct_cp (A 4) (6 * x + (e + 1)) (6 * y) (A 1 y + 1))) 12)) (ct_a ((ct_st A 4 (ct_cp (A 4) (6 * x + (e + 1)) (6 * y) (A 1 y + 1))) 13)) (ct_c ((ct_st A 4 (ct_cp (A 4) (6 * x + (e + 1)) (6 * y) (A 1 y + 1))) 14)) (ct_c ((ct_st A 4 (ct_cp (A 4) (6 * x + (e + 1)) (6 * y) (A 1 y + 1))) 15)) (ct_c ((ct_st A 4 (ct_cp (A 4) (6 * x + (e + 1)) (6 * y) (A 1 y + 1))) 16))) : ∀ (m : Nat) (k : Int), 0 ≤ k → k + m = A 1 y + 1 → wX_melt_130 post (ct_i p) (ct_i i) (ct_i x) (ct_i y) (ct_i e) (ct_i (A 0 0)) (m + 1) (ct_i k) (ct_c ((ct_st A 4 (ct_cp (A 4) (6 * x + (e + 1)) (6 * y) k)) 1)) (ct_c ((ct_st A 4 (ct_cp (A 4) (6 * x + (e + 1)) (6 * y) k)) 2)) (ct_a ((ct_st A 4 (ct_cp (A 4) (6 * x + (e + 1)) (6 * y) k)) 3)) (ct_c ((ct_st A 4 (ct_cp (A 4) (6 * x + (e + 1)) (6 * y) k)) 4)) (ct_a ((ct_st A 4 (ct_cp (A 4) (6 * x + (e + 1)) (6 * y) k)) 5)) (ct_a ((ct_st A 4 (ct_cp (A 4) (6 * x + (e + 1)) (6 * y) k)) 6)) (ct_c ((ct_st A 4 (ct_cp (A 4) (6 * x + (e + 1)) (6 * y) k)) 7)) (ct_c ((ct_st A 4 (ct_cp (A 4) (6 * x + (e + 1)) (6 * y) k)) 8)) (ct_a ((ct_st A 4 (ct_cp (A 4) (6 * x + (e + 1)) (6 * y) k)) 9)) (ct_a ((ct_st A 4 (ct_cp (A 4) (6 * x + (e + 1)) (6 * y) k)) 10)) (ct_c ((ct_st A 4 (ct_cp (A 4) (6 * x + (e + 1)) (6 * y) k)) 11)) (ct_c ((ct_st A 4 (ct_cp (A 4) (6 * x + (e + 1)) (6 * y) k)) 12)) (ct_a ((ct_st A 4 (ct_cp (A 4) (6 * x + (e + 1)) (6 * y) k)) 13)) (ct_c ((ct_st A 4 (ct_cp (A 4) (6 * x + (e + 1)) (6 * y) k)) 14)) (ct_c ((ct_st A 4 (ct_cp (A 4) (6 * x + (e + 1)) (6 * y) k)) 15)) (ct_c ((ct_st A 4 (ct_cp (A 4) (6 * x + (e + 1)) (6 * y) k)) 16)) := by
  intro m
  have hb : ct_c (A 1) (ct_i y).toNatClampNeg = ct_i (A 1 y) := by rw [ct_rc hy0 (by omega), ct_bI (by omega) (by omega)]
  induction m with
  | zero =>
    intro k hk0 hk
    have e' : k = A 1 y + 1 := by omega
    subst e'
    unfold wX_melt_130
    refine ⟨ct_in hy0 (by omega) (by decide), br_t ?_ hp⟩
    show ct_c (A 1) (ct_i y).toNatClampNeg < _
    rw [hb, ct_lt (by omega) (by omega) (by omega) (by omega)]; omega
  | succ m ih =>
    intro k hk0 hk
    unfold wX_melt_130
    refine ⟨ct_in hy0 (by omega) (by decide), br_f ?_ ?_⟩
    · show ¬ ct_c (A 1) (ct_i y).toNatClampNeg < _
      rw [hb, ct_lt (by omega) (by omega) (by omega) (by omega)]; omega
    · simp (disch := omega) only [ct_l0, ct_l1, ct_l2, ct_l3, ct_l4, ct_l5, ct_l6, ct_l24, ct_l25, ct_l99, ct_l100, ct_neg, ct_add, ct_sub, ct_mul, ct_inT, ct_rd, ct_rc, ct_wr, ct_wc, ct_wci, ct_bI, ct_nb, ct_nbi, ct_tb, ct_le, ct_lt, ct_eq, ct_rc0, ct_rc1, ct_rc3, ct_rd0, ct_rd1, ct_wc3, ct_wc3i, ct_wc0, ct_wc0i, ct_wr0, true_and, forall_eq]
      have := ih (k + 1) (by omega) (by omega)
      rw [← ct_cp_up hk0 (by omega), show 6 * x + (e + 1) + k = 6 * x + e + 1 + k by omega] at this
      exact this
theorem ct_melt_65 {post : St1 → Prop} {B : Nat → Int → Int} {p i x y e : Int} (hx0 : 0 ≤ x) (hx1 : x < 100) (hy0 : 0 ≤ y) (hy1 : y < 100) (hp0 : 0 ≤ p) (hp1 : p < 100) (hpx : p ≠ x) (hxy : x ≠ y) (hi : 0 ≤ i) (hin : i < B 1 p) (hn : B 1 p ≤ 4) (he0 : 0 ≤ e) (hy2 : 0 ≤ B 1 y) (hye : e + 1 + B 1 y ≤ 4) (hb4 : -128 ≤ B 4 (6 * x) ∧ B 4 (6 * x) < 128) (hp : post (ct_lf (ct_m4 (ct_m3 (ct_m2 (ct_m1 B x y e (B 1 y)) x y e) p i x y e) p i y))) : ∀ (m : Nat) (k : Int), 0 ≤ k → k + m = B 1 y → wX_melt_65 post (ct_i p) (ct_i i) (ct_i x) (ct_i y) (ct_i e) (m + 1) (ct_i k) (ct_i (B 0 0)) (ct_c ((ct_m1 B x y e k) 1)) (ct_c ((ct_m1 B x y e k) 2)) (ct_a ((ct_m1 B x y e k) 3)) (ct_c ((ct_m1 B x y e k) 4)) (ct_a ((ct_m1 B x y e k) 5)) (ct_a ((ct_m1 B x y e k) 6)) (ct_c ((ct_m1 B x y e k) 7)) (ct_c ((ct_m1 B x y e k) 8)) (ct_a ((ct_m1 B x y e k) 9)) (ct_a ((ct_m1 B x y e k) 10)) (ct_c ((ct_m1 B x y e k) 11)) (ct_c ((ct_m1 B x y e k) 12)) (ct_a ((ct_m1 B x y e k) 13)) (ct_c ((ct_m1 B x y e k) 14)) (ct_c ((ct_m1 B x y e k) 15)) (ct_c ((ct_m1 B x y e k) 16)) := by
  intro m
  have hb : ct_c (B 1) (ct_i y).toNatClampNeg = ct_i (B 1 y) := by rw [ct_rc hy0 (by omega), ct_bI (by omega) (by omega)]
  induction m with
  | zero =>
    intro k hk0 hk
    have e' : k = B 1 y := by omega
    subst e'
    unfold wX_melt_65
    refine ⟨ct_in hy0 (by omega) (by decide), br_t ?_ ?_⟩
    · show ct_c (B 1) (ct_i y).toNatClampNeg ≤ _
      rw [hb, ct_le (by omega) (by omega) (by omega) (by omega)]; omega
    refine ct_isLeaf (A := ct_m1 B x y e (B 1 y)) hx0 hx1 hb4 ?_
    by_cases h : B 4 (6 * x) < 0
    · rw [if_pos (show ct_m1 B x y e (B 1 y) 4 (6 * x) < 0 from h)]
      unfold ct_m2 at hp
      rw [if_pos (show ct_m1 B x y e (B 1 y) 4 (6 * x) < 0 from h)] at hp
      exact br_f (by decide) (ct_melt_178 (A := ct_m1 B x y e (B 1 y)) hx0 hx1 hy0 hy1 hp0 hp1 hpx hi hin hn he0 (by omega) hy2 (by show B 1 y ≤ 5; omega) hp)
    · rw [if_neg (show ¬ ct_m1 B x y e (B 1 y) 4 (6 * x) < 0 from h)]
      unfold ct_m2 at hp
      rw [if_neg (show ¬ ct_m1 B x y e (B 1 y) 4 (6 * x) < 0 from h)] at hp
      refine br_t rfl ⟨(B 1 y + 1).toNat + 1, ?_⟩
      have := ct_melt_130 (A := ct_m1 B x y e (B 1 y)) (p := p) (i := i) hx0 hx1 hy0 hy1 hxy he0 hy2 (by show e + 1 + B 1 y ≤ 5; omega) (ct_melt_178 (A := ct_st (ct_m1 B x y e (B 1 y)) 4 (ct_cp (B 4) (6 * x + (e + 1)) (6 * y) (B 1 y + 1))) hx0 hx1 hy0 hy1 hp0 hp1 hpx hi hin hn he0 (by omega) hy2 (by show B 1 y ≤ 5; omega) hp) (B 1 y + 1).toNat 0 (by omega) (by show 0 + ((B 1 y + 1).toNat : Int) = B 1 y + 1; omega)
      rw [ct_cp_0] at this
      exact this
  | succ m ih =>
    intro k hk0 hk
    have ey : (5 : Int32) * ct_i y + ct_i k = ct_i (5 * y + k) := by rw [ct_l5, ct_mul, ct_add]
    have ee : ct_i e + 1 + ct_i k = ct_i (e + 1 + k) := by rw [ct_l1, ct_add, ct_add]
    unfold wX_melt_65
    refine ⟨ct_in hy0 (by omega) (by decide), br_f ?_ ?_⟩
    · show ¬ ct_c (B 1) (ct_i y).toNatClampNeg ≤ _
      rw [hb, ct_le (by omega) (by omega) (by omega) (by omega)]; omega
    rw [ey, ee]
    refine ⟨ct_in (by omega) (by omega) (by decide), ct_in (by omega) (by omega) (by decide), ?_⟩
    refine ct_putAt (A := ct_m1 B x y e k) (ct_m1 B x y e k 2 (5 * y + k)) (ct_m1 B x y e k 3 (5 * y + k)) (by omega) (by omega) (by rw [ct_rc (by omega) (by omega), ct_tbb]) (ct_rd (by omega) (by omega)) ?_
    refine nm_r (e' := ct_i (k + 1)) (ct_add k 1) ?_
    have := ih (k + 1) (by omega) (by omega)
    unfold ct_m1 at this
    rw [← ct_cp_up hk0 (by omega), ← ct_cp_up hk0 (by omega), show 5 * x + (e + 1) + k = 5 * x + (e + 1 + k) by omega] at this
    exact this
theorem ct_melt {post : St1 → Prop} {A : Nat → Int → Int} {p i x y : Int} (hx0 : 0 ≤ x) (hx1 : x < 100) (hy0 : 0 ≤ y) (hy1 : y < 100) (hp0 : 0 ≤ p) (hp1 : p < 100) (hpx : p ≠ x) (hxy : x ≠ y) (hi : 0 ≤ i) (hin : i < A 1 p) (hn : A 1 p ≤ 4) (he0 : 0 ≤ A 1 x) (hy2 : 0 ≤ A 1 y) (hye : A 1 x + 1 + A 1 y ≤ 4) (hcx : A 4 (6 * p + i) = x) (hcy : A 4 (6 * p + i + 1) = y) (hb4 : -128 ≤ A 4 (6 * x) ∧ A 4 (6 * x) < 128) (hp : post (ct_lf (ct_mlt A p i x y))) : wpX_melt post (ct_lf A) (ct_i p) (ct_i i) := by
  have ex : (6 : Int32) * ct_i p + ct_i i = ct_i (6 * p + i) := by rw [ct_l6, ct_mul, ct_add]
  have em : ct_i (6 * p + i) + 1 = ct_i (6 * p + i + 1) := ct_add _ 1
  have e5 : (5 : Int32) * ct_i p + ct_i i = ct_i (5 * p + i) := by rw [ct_l5, ct_mul, ct_add]
  unfold wpX_melt
  show vp_in (6 * ct_i p + ct_i i) 600 ∧ ∀ x3 : Int32, x3 = ct_c (A 4) (6 * ct_i p + ct_i i).toNatClampNeg → vp_in (6 * ct_i p + ct_i i + 1) 600 ∧ ∀ x4 : Int32, x4 = ct_c (A 4) (6 * ct_i p + ct_i i + 1).toNatClampNeg → vp_in x3 100 ∧ ∀ x5 : Int32, x5 = ct_c (A 1) x3.toNatClampNeg → vp_in (5 * ct_i p + ct_i i) 500 ∧ vp_in (5 * ct_i p + ct_i i) 500 ∧ wpX_putAt _ (ct_lf A) x3 x5 (ct_c (A 2) (5 * ct_i p + ct_i i).toNatClampNeg) (ct_a (A 3) (5 * ct_i p + ct_i i).toNatClampNeg)
  rw [ex, em, e5]
  refine ⟨ct_in (by omega) (by omega) (by decide), nm_r (e' := ct_i x) (by rw [ct_rc (by omega) (by omega), hcx, ct_bI (by omega) (by omega)]) ⟨ct_in (by omega) (by omega) (by decide), nm_r (e' := ct_i y) (by rw [ct_rc (by omega) (by omega), hcy, ct_bI (by omega) (by omega)]) ⟨ct_in hx0 (by omega) (by decide), nm_r (e' := ct_i (A 1 x)) (by rw [ct_rc hx0 (by omega), ct_bI (by omega) (by omega)]) ⟨ct_in (by omega) (by omega) (by decide), ct_in (by omega) (by omega) (by decide), ?_⟩⟩⟩⟩
  refine ct_putAt (A := A) (A 2 (5 * p + i)) (A 3 (5 * p + i)) (by omega) (by omega) (by rw [ct_rc (by omega) (by omega), ct_tbb]) (ct_rd (by omega) (by omega)) ?_
  refine ⟨(A 1 y).toNat + 1, ?_⟩
  have := ct_melt_65 (B := ct_pat A x (A 1 x) (A 2 (5 * p + i)) (A 3 (5 * p + i))) (p := p) (i := i) (x := x) (y := y) (e := A 1 x) hx0 hx1 hy0 hy1 hp0 hp1 hpx hxy hi hin hn he0 hy2 hye hb4 hp (A 1 y).toNat 0 (by omega) (by show 0 + ((A 1 y).toNat : Int) = A 1 y; omega)
  unfold ct_m1 at this
  rw [ct_cp_0, ct_cp_0] at this
  exact this
end
section
/-! ===== 25: what takeFromLeft, takeFromRight and melt do to the nodes ===== -/
theorem ct_tl4_k {A : Nat → Int → Int} {x y : Int} : ct_tl4 A x y 1 = A 1 ∧ ct_tl4 A x y 2 = A 2 ∧ ct_tl4 A x y 3 = A 3 ∧ ct_tl4 A x y 5 = A 5 ∧ ct_tl4 A x y 7 = A 7 ∧ ct_tl4 A x y 8 = A 8 ∧ ct_tl4 A x y 9 = A 9 ∧ ct_tl4 A x y 10 = A 10 ∧ ct_tl4 A x y 11 = A 11 ∧ ct_tl4 A x y 12 = A 12 ∧ ct_tl4 A x y 13 = A 13 := by
  unfold ct_tl4
  by_cases e : A 4 (6 * x) < 0
  · rw [if_pos e]; exact ⟨rfl, rfl, rfl, rfl, rfl, rfl, rfl, rfl, rfl, rfl, rfl⟩
  · rw [if_neg e]; exact ⟨rfl, rfl, rfl, rfl, rfl, rfl, rfl, rfl, rfl, rfl, rfl⟩
theorem ct_tl4_4 {A : Nat → Int → Int} {x y q : Int} (h : q ≠ x) (hn0 : 0 ≤ A 1 x) (hn : A 1 x ≤ 4) : ∀ j, 6 * q ≤ j → j < 6 * q + 6 → ct_tl4 A x y 4 j = A 4 j := by
  intro j h0 h1
  unfold ct_tl4
  by_cases e : A 4 (6 * x) < 0
  · rw [if_pos e]
  · rw [if_neg e]
    show ct_up (ct_sR (A 4) (6 * x) (6 * x + (A 1 x + 1))) (6 * x) (A 4 (6 * y + A 1 y)) j = A 4 j
    rw [ct_un (by omega), ct_sR_lo (by omega)]
/-- the arrays after takeFromLeft -/
theorem ct_tfl_arr {A : Nat → Int → Int} {p i x y : Int} : ct_tlk (ct_tl4 A x y) p i x y 1 = ct_up (ct_up (A 1) x (A 1 x + 1)) y (A 1 y - 1) ∧ ct_tlk (ct_tl4 A x y) p i x y 2 = ct_up (ct_up (ct_sR (A 2) (5 * x + 0) (5 * x + A 1 x)) (5 * x + 0) (A 2 (5 * p + i - 1))) (5 * p + (i - 1)) (A 2 (5 * y + A 1 y - 1)) ∧ ct_tlk (ct_tl4 A x y) p i x y 3 = ct_up (ct_up (ct_sR (A 3) (5 * x + 0) (5 * x + A 1 x)) (5 * x + 0) (A 3 (5 * p + i - 1))) (5 * p + (i - 1)) (A 3 (5 * y + A 1 y - 1)) ∧ ct_tlk (ct_tl4 A x y) p i x y 4 = ct_tl4 A x y 4 ∧ ct_tlk (ct_tl4 A x y) p i x y 5 = A 5 := by
  obtain ⟨e1, e2, e3, e5, e7⟩ := ct_tl4_k (A := A) (x := x) (y := y)
  refine ⟨?_, ?_, ?_, rfl, e5⟩
  · show ct_up (ct_up (ct_tl4 A x y 1) x (ct_tl4 A x y 1 x + 1)) y (ct_tl4 A x y 1 y - 1) = _
    rw [e1]
  · show ct_up (ct_up (ct_sR (ct_tl4 A x y 2) (5 * x + 0) (5 * x + ct_tl4 A x y 1 x)) (5 * x + 0) (ct_tl4 A x y 2 (5 * p + i - 1))) (5 * p + (i - 1)) (ct_tl4 A x y 2 (5 * y + ct_tl4 A x y 1 y - 1)) = _
    rw [e1, e2]
  · show ct_up (ct_up (ct_sR (ct_tl4 A x y 3) (5 * x + 0) (5 * x + ct_tl4 A x y 1 x)) (5 * x + 0) (ct_tl4 A x y 3 (5 * p + i - 1))) (5 * p + (i - 1)) (ct_tl4 A x y 3 (5 * y + ct_tl4 A x y 1 y - 1)) = _
    rw [e1, e3]
theorem ct_tfl_nd {A : Nat → Int → Int} {p x y : Int} {k1 k2 ky kx : List ct_KV} {s l : ct_KV} {cp cy cl cx : List Int} (hpx : p ≠ x) (hpy : p ≠ y) (hxy : x ≠ y)
    (hp : ct_nd A p = (k1 ++ s :: k2, cp)) (hy : ct_nd A y = (ky ++ [l], cy ++ cl)) (hx : ct_nd A x = (kx, cx)) (h1p : A 1 p = ((k1 ++ s :: k2).length : Int)) (h1y : A 1 y = ((ky ++ [l]).length : Int)) (h1x : A 1 x = (kx.length : Int)) (hkx : kx.length ≤ 4) (hc : (cy = [] ∧ cl = [] ∧ cx = []) ∨ (cy.length = ky.length + 1 ∧ (∃ c, cl = [c] ∧ 0 ≤ c) ∧ cx.length = kx.length + 1)) :
    ct_nd (ct_tlk (ct_tl4 A x y) p (k1.length + 1) x y) p = (k1 ++ l :: k2, cp) ∧ ct_nd (ct_tlk (ct_tl4 A x y) p (k1.length + 1) x y) y = (ky, cy) ∧ ct_nd (ct_tlk (ct_tl4 A x y) p (k1.length + 1) x y) x = (s :: kx, cl ++ cx) ∧ (∀ q, q ≠ p → q ≠ x → q ≠ y → ct_nd (ct_tlk (ct_tl4 A x y) p (k1.length + 1) x y) q = ct_nd A q ∧ ct_tlk (ct_tl4 A x y) p (k1.length + 1) x y 1 q = A 1 q ∧ ct_tlk (ct_tl4 A x y) p (k1.length + 1) x y 4 (6 * q) = A 4 (6 * q)) ∧ ct_tlk (ct_tl4 A x y) p (k1.length + 1) x y 1 p = A 1 p := by
  obtain ⟨e1, e2, e3, e4, e5⟩ := ct_tfl_arr (A := A) (p := p) (i := (k1.length : Int) + 1) (x := x) (y := y)
  have sp := ct_nd_kv (A := A) (x := p) (ka := k1) (e := s) (kb := k2) (by rw [hp])
  have ly := ct_nd_kv (A := A) (x := y) (ka := ky) (e := l) (kb := []) (by rw [hy])
  have kp := ct_nd_k hp
  have kyy := ct_nd_k hy
  have kxx := ct_nd_k hx
  have capp := ct_nd_cap (A := A) (x := p)
  rw [hp] at capp
  have capy := ct_nd_cap (A := A) (x := y)
  rw [hy] at capy
  simp only [List.length_append, List.length_cons, List.length_nil] at capp capy h1p h1y
  rw [show 5 * p + ((k1.length : Int) + 1) - 1 = 5 * p + k1.length by omega, show 5 * p + ((k1.length : Int) + 1 - 1) = 5 * p + k1.length by omega, show 5 * y + A 1 y - 1 = 5 * y + ky.length by omega] at e2 e3
  rw [sp.1, ly.1] at e2
  rw [sp.2, ly.2] at e3
  have b1p : ct_tlk (ct_tl4 A x y) p (k1.length + 1) x y 1 p = A 1 p := by rw [e1, ct_un hpy, ct_un hpx]
  have b1x : ct_tlk (ct_tl4 A x y) p (k1.length + 1) x y 1 x = ((kx.length + 1 : Nat) : Int) := by rw [e1, ct_un hxy, ct_us, h1x]; omega
  have b1y : ct_tlk (ct_tl4 A x y) p (k1.length + 1) x y 1 y = (ky.length : Int) := by rw [e1, ct_us]; omega
  have a4 : ∀ q, q ≠ x → ∀ j, 6 * q ≤ j → j < 6 * q + 6 → ct_tlk (ct_tl4 A x y) p (k1.length + 1) x y 4 j = A 4 j := by
    intro q hq j h0 h1
    rw [e4]; exact ct_tl4_4 hq (by omega) (by omega) j h0 h1
  refine ⟨?_, ?_, ?_, ?_, b1p⟩
  · have hcp : (ct_nd A p).2 = cp := by rw [hp]
    refine ct_nd_mk (n := (k1 ++ s :: k2).length) (by rw [b1p]; simp; omega) (by simp; omega) ?_ ?_
    · refine ct_sg_set kp (fun j h0 h1 hj => ?_) ?_
      · simp at h1
        rw [e2, e3, ct_un (by omega), ct_un (by omega), ct_un (by omega), ct_un (by omega), ct_sR_lo (by omega), ct_sR_lo (by omega)]
      · rw [e2, e3, ct_us, ct_us]
    · by_cases h : A 4 (6 * p) < 0
      · left
        refine ⟨by rw [a4 p hpx _ (by omega) (by omega)]; exact h, ?_⟩
        rw [← hcp]; exact ct_nd_lf.mpr h
      · right
        refine ⟨by rw [a4 p hpx _ (by omega) (by omega)]; exact h, ?_⟩
        cases cp with
        | nil => exact absurd (ct_nd_lf.mp hcp) h
        | cons c cs =>
          have := ct_nd_c hp
          refine Eq.trans (ct_sg_cg _ _ _ (fun j h0 h1 => ?_)) this.1
          simp at h1
          exact a4 p hpx _ (by omega) (by omega)
  · refine ct_nd_mk (n := ky.length) b1y (by omega) ?_ ?_
    · refine ct_sg_tk kyy rfl (fun j h0 h1 => ?_)
      rw [e2, e3, ct_un (by omega), ct_un (by omega), ct_un (by omega), ct_un (by omega), ct_sR_lo (by omega), ct_sR_lo (by omega)]
    · rcases hc with ⟨g1, g2, g3⟩ | ⟨g1, ⟨c, g2, g2'⟩, g3⟩
      · left
        refine ⟨?_, g1⟩
        rw [a4 y (fun e => hxy e.symm) _ (by omega) (by omega)]
        exact ct_nd_lf.mp (by rw [hy, g1, g2]; rfl)
      · right
        cases cy with
        | nil => simp at g1
        | cons c0 cy' =>
          have := ct_nd_c (A := A) (x := y) (c := c0) (cs := cy' ++ cl) hy
          refine ⟨by rw [a4 y (fun e => hxy e.symm) _ (by omega) (by omega)]; exact this.2.1, ?_⟩
          refine ct_sg_tk (ka := c0 :: cy') (kb := cl) this.1 g1.symm (fun j h0 h1 => ?_)
          rw [g1] at h1
          exact a4 y (fun e => hxy e.symm) _ (by omega) (by omega)
  · refine ct_nd_mk (n := kx.length + 1) b1x (by omega) ?_ ?_
    · have := ct_sg_ins (F := fun j => (A 2 j, A 3 j)) (F' := fun j => (ct_tlk (ct_tl4 A x y) p (k1.length + 1) x y 2 j, ct_tlk (ct_tl4 A x y) p (k1.length + 1) x y 3 j)) (ka := []) (kb := kx) (e := s) (b := 5 * x) (n := kx.length) kxx (fun j h0 h1 => by simp at h1; omega) ?_ (fun j h0 h1 => ?_)
      · exact this
      · simp only [List.length_nil]
        have v2 : ct_tlk (ct_tl4 A x y) p (k1.length + 1) x y 2 (5 * x + 0) = s.1 := by rw [e2, ct_un (by omega), ct_us]
        have v3 : ct_tlk (ct_tl4 A x y) p (k1.length + 1) x y 3 (5 * x + 0) = s.2 := by rw [e3, ct_un (by omega), ct_us]
        rw [show 5 * x + ((0 : Nat) : Int) = 5 * x + 0 by omega, v2, v3]
      · simp at h0 h1
        rw [e2, e3, ct_un (by omega), ct_un (by omega), ct_un (by omega), ct_un (by omega), ct_sR_in (by omega) (by omega), ct_sR_in (by omega) (by omega), show 5 * x + j + 1 - 1 = 5 * x + j by omega]
    · rcases hc with ⟨g1, g2, g3⟩ | ⟨g1, ⟨c, g2, g2'⟩, g3⟩
      · left
        have hlf : A 4 (6 * x) < 0 := ct_nd_lf.mp (by rw [hx, g3])
        refine ⟨?_, by rw [g2, g3]; rfl⟩
        rw [e4]
        unfold ct_tl4
        rw [if_pos hlf]; exact hlf
      · right
        cases cx with
        | nil => simp at g3
        | cons c0 cx' =>
          obtain ⟨d1, d2, d3⟩ := ct_nd_c hx
          have lc : A 4 (6 * y + A 1 y) = c := by
            have := ct_nd_ch (A := A) (x := y) (ca := cy) (c := c) (cb := []) (by rw [hy, g2])
            rw [g1] at this
            rw [h1y]
            exact this
          have hb4 : ct_tlk (ct_tl4 A x y) p (k1.length + 1) x y 4 = ct_up (ct_sR (A 4) (6 * x) (6 * x + (A 1 x + 1))) (6 * x) c := by
            rw [e4]
            unfold ct_tl4
            rw [if_neg d2, lc]
            rfl
          rw [hb4]
          refine ⟨by rw [ct_us]; omega, ?_⟩
          rw [g2]
          have := ct_sg_ins (F := A 4) (F' := ct_up (ct_sR (A 4) (6 * x) (6 * x + (A 1 x + 1))) (6 * x) c) (ka := []) (kb := c0 :: cx') (e := c) (b := 6 * x) (n := kx.length + 1) d1 (fun j h0 h1 => by simp at h1; omega) ?_ (fun j h0 h1 => ?_)
          · exact this
          · simp only [List.length_nil]
            rw [show 6 * x + ((0 : Nat) : Int) = 6 * x by omega, ct_us]
          · rw [g3] at h1
            simp only [List.length_nil] at h0 h1
            rw [ct_un (by omega), ct_sR_in (by omega) (by omega), show 6 * x + j + 1 - 1 = 6 * x + j by omega]
  · intro q q1 q2 q3
    have b1q : ct_tlk (ct_tl4 A x y) p (k1.length + 1) x y 1 q = A 1 q := by rw [e1, ct_un q3, ct_un q2]
    refine ⟨ct_nd_cg b1q (fun j h0 h1 => ⟨?_, ?_⟩) (a4 q q2), b1q, a4 q q2 _ (by omega) (by omega)⟩
    · rw [e2, ct_un (by omega), ct_un (by omega), ct_sR_lo (by omega)]
    · rw [e3, ct_un (by omega), ct_un (by omega), ct_sR_lo (by omega)]
/-- the arrays after takeFromRight -/
theorem ct_tfr_arr {A : Nat → Int → Int} {p i x y : Int} (hpx : p ≠ x) (hpy : p ≠ y) (hxy : x ≠ y) (hi0 : 0 ≤ i) (hi4 : i ≤ 4) (hn0 : 0 ≤ A 1 x) (hn : A 1 x ≤ 4) :
    ct_trk A p i x y 1 = ct_up (ct_up (A 1) x (A 1 x + 1)) y (A 1 y - 1) ∧ ct_trk A p i x y 2 = ct_sL (ct_up (ct_up (A 2) (5 * x + A 1 x) (A 2 (5 * p + i))) (5 * p + i) (A 2 (5 * y))) (5 * y + 0) (5 * y + (A 1 y - 1)) ∧ ct_trk A p i x y 3 = ct_sL (ct_up (ct_up (A 3) (5 * x + A 1 x) (A 3 (5 * p + i))) (5 * p + i) (A 3 (5 * y))) (5 * y + 0) (5 * y + (A 1 y - 1)) ∧ ct_trk A p i x y 5 = A 5 ∧ (ct_trk A p i x y 7 = A 7 ∧ ct_trk A p i x y 8 = A 8 ∧ ct_trk A p i x y 9 = A 9 ∧ ct_trk A p i x y 10 = A 10 ∧ ct_trk A p i x y 11 = A 11 ∧ ct_trk A p i x y 12 = A 12 ∧ ct_trk A p i x y 13 = A 13) ∧
    ct_trk A p i x y 4 = (if (if A 4 (6 * x) < 0 then A 4 else ct_up (A 4) (6 * x + A 1 x + 1) (A 4 (6 * y))) (6 * y) < 0 then (if A 4 (6 * x) < 0 then A 4 else ct_up (A 4) (6 * x + A 1 x + 1) (A 4 (6 * y))) else ct_sL (if A 4 (6 * x) < 0 then A 4 else ct_up (A 4) (6 * x + A 1 x + 1) (A 4 (6 * y))) (6 * y) (6 * y + A 1 y)) := by
  have hu : ct_up (A 1) x (A 1 x + 1) y = A 1 y := ct_un (fun e => hxy e.symm)
  have u2 : ct_up (A 2) (5 * x + A 1 x) (A 2 (5 * p + i)) (5 * y) = A 2 (5 * y) := ct_un (by omega)
  have u3 : ct_up (A 3) (5 * x + A 1 x) (A 3 (5 * p + i)) (5 * y) = A 3 (5 * y) := ct_un (by omega)
  have hE : ∀ E : Nat → Int → Int, E = ct_tr4 (ct_pat A x (A 1 x) (A 2 (5 * p + i)) (A 3 (5 * p + i))) x y → E 1 = A 1 ∧ E 2 = ct_up (A 2) (5 * x + A 1 x) (A 2 (5 * p + i)) ∧ E 3 = ct_up (A 3) (5 * x + A 1 x) (A 3 (5 * p + i)) ∧ E 4 = (if A 4 (6 * x) < 0 then A 4 else ct_up (A 4) (6 * x + A 1 x + 1) (A 4 (6 * y))) ∧ E 5 = A 5 ∧ (E 7 = A 7 ∧ E 8 = A 8 ∧ E 9 = A 9 ∧ E 10 = A 10 ∧ E 11 = A 11 ∧ E 12 = A 12 ∧ E 13 = A 13) := by
    intro E e
    subst e
    unfold ct_tr4
    by_cases h : A 4 (6 * x) < 0
    · rw [if_pos (show ct_pat A x (A 1 x) (A 2 (5 * p + i)) (A 3 (5 * p + i)) 4 (6 * x) < 0 from h), if_pos h]
      exact ⟨rfl, rfl, rfl, rfl, rfl, rfl, rfl, rfl, rfl, rfl, rfl, rfl⟩
    · rw [if_neg (show ¬ ct_pat A x (A 1 x) (A 2 (5 * p + i)) (A 3 (5 * p + i)) 4 (6 * x) < 0 from h), if_neg h]
      exact ⟨rfl, rfl, rfl, rfl, rfl, rfl, rfl, rfl, rfl, rfl, rfl, rfl⟩
  obtain ⟨E1, E2, E3, E4, E5, E7, E8, E9, E10, E11, E12, E13⟩ := hE _ rfl
  have hF : ∀ F : Nat → Int → Int, F = ct_trs (ct_trp (ct_tr4 (ct_pat A x (A 1 x) (A 2 (5 * p + i)) (A 3 (5 * p + i))) x y) p i x y) y → F 1 = ct_up (A 1) x (A 1 x + 1) ∧ F 2 = ct_up (ct_up (A 2) (5 * x + A 1 x) (A 2 (5 * p + i))) (5 * p + i) (A 2 (5 * y)) ∧ F 3 = ct_up (ct_up (A 3) (5 * x + A 1 x) (A 3 (5 * p + i))) (5 * p + i) (A 3 (5 * y)) ∧ F 5 = A 5 ∧ (F 7 = A 7 ∧ F 8 = A 8 ∧ F 9 = A 9 ∧ F 10 = A 10 ∧ F 11 = A 11 ∧ F 12 = A 12 ∧ F 13 = A 13) ∧ F 4 = (if (if A 4 (6 * x) < 0 then A 4 else ct_up (A 4) (6 * x + A 1 x + 1) (A 4 (6 * y))) (6 * y) < 0 then (if A 4 (6 * x) < 0 then A 4 else ct_up (A 4) (6 * x + A 1 x + 1) (A 4 (6 * y))) else ct_sL (if A 4 (6 * x) < 0 then A 4 else ct_up (A 4) (6 * x + A 1 x + 1) (A 4 (6 * y))) (6 * y) (6 * y + A 1 y)) := by
    intro F e
    subst e
    have b1 : ct_trp (ct_tr4 (ct_pat A x (A 1 x) (A 2 (5 * p + i)) (A 3 (5 * p + i))) x y) p i x y 1 = ct_up (A 1) x (A 1 x + 1) := by
      show ct_up (ct_tr4 (ct_pat A x (A 1 x) (A 2 (5 * p + i)) (A 3 (5 * p + i))) x y 1) x (ct_tr4 (ct_pat A x (A 1 x) (A 2 (5 * p + i)) (A 3 (5 * p + i))) x y 1 x + 1) = _
      rw [E1]
    have b2 : ct_trp (ct_tr4 (ct_pat A x (A 1 x) (A 2 (5 * p + i)) (A 3 (5 * p + i))) x y) p i x y 2 = ct_up (ct_up (A 2) (5 * x + A 1 x) (A 2 (5 * p + i))) (5 * p + i) (A 2 (5 * y)) := by
      show ct_up (ct_tr4 (ct_pat A x (A 1 x) (A 2 (5 * p + i)) (A 3 (5 * p + i))) x y 2) (5 * p + i) (ct_tr4 (ct_pat A x (A 1 x) (A 2 (5 * p + i)) (A 3 (5 * p + i))) x y 2 (5 * y)) = _
      rw [E2, u2]
    have b3 : ct_trp (ct_tr4 (ct_pat A x (A 1 x) (A 2 (5 * p + i)) (A 3 (5 * p + i))) x y) p i x y 3 = ct_up (ct_up (A 3) (5 * x + A 1 x) (A 3 (5 * p + i))) (5 * p + i) (A 3 (5 * y)) := by
      show ct_up (ct_tr4 (ct_pat A x (A 1 x) (A 2 (5 * p + i)) (A 3 (5 * p + i))) x y 3) (5 * p + i) (ct_tr4 (ct_pat A x (A 1 x) (A 2 (5 * p + i)) (A 3 (5 * p + i))) x y 3 (5 * y)) = _
      rw [E3, u3]
    have b4 : ct_trp (ct_tr4 (ct_pat A x (A 1 x) (A 2 (5 * p + i)) (A 3 (5 * p + i))) x y) p i x y 4 = (if A 4 (6 * x) < 0 then A 4 else ct_up (A 4) (6 * x + A 1 x + 1) (A 4 (6 * y))) := E4
    unfold ct_trs
    rw [b4]
    by_cases h : (if A 4 (6 * x) < 0 then A 4 else ct_up (A 4) (6 * x + A 1 x + 1) (A 4 (6 * y))) (6 * y) < 0
    · rw [if_pos h, if_pos h]
      exact ⟨b1, b2, b3, E5, ⟨E7, E8, E9, E10, E11, E12, E13⟩, b4⟩
    · rw [if_neg h, if_neg h]
      refine ⟨b1, b2, b3, E5, ⟨E7, E8, E9, E10, E11, E12, E13⟩, ?_⟩
      show ct_sL _ (6 * y) (6 * y + ct_trp (ct_tr4 (ct_pat A x (A 1 x) (A 2 (5 * p + i)) (A 3 (5 * p + i))) x y) p i x y 1 y) = _
      rw [b1, hu]
  obtain ⟨F1, F2, F3, F5, ⟨F7, F8, F9, F10, F11, F12, F13⟩, F4⟩ := hF _ rfl
  unfold ct_trk
  refine ⟨?_, ?_, ?_, F5, ⟨F7, F8, F9, F10, F11, F12, F13⟩, F4⟩
  · show ct_up (ct_trs _ y 1) y (ct_trs _ y 1 y - 1) = _
    rw [F1, hu]
  · show ct_sL (ct_trs _ y 2) (5 * y + 0) (5 * y + (ct_trs _ y 1 y - 1)) = _
    rw [F2, F1, hu]
  · show ct_sL (ct_trs _ y 3) (5 * y + 0) (5 * y + (ct_trs _ y 1 y - 1)) = _
    rw [F3, F1, hu]
theorem ct_tfr_nd {A : Nat → Int → Int} {p x y : Int} {k1 k2 ky kx : List ct_KV} {s l : ct_KV} {cp cy cl cx : List Int} (hpx : p ≠ x) (hpy : p ≠ y) (hxy : x ≠ y)
    (hp : ct_nd A p = (k1 ++ s :: k2, cp)) (hy : ct_nd A y = (l :: ky, cl ++ cy)) (hx : ct_nd A x = (kx, cx)) (h1p : A 1 p = ((k1 ++ s :: k2).length : Int)) (h1y : A 1 y = ((l :: ky).length : Int)) (h1x : A 1 x = (kx.length : Int)) (hkx : kx.length ≤ 4) (hc : (cy = [] ∧ cl = [] ∧ cx = []) ∨ (cy.length = ky.length + 1 ∧ (∃ c, cl = [c] ∧ 0 ≤ c) ∧ cx.length = kx.length + 1 ∧ ∀ c, c ∈ cy → 0 ≤ c)) :
    ct_nd (ct_trk A p k1.length x y) p = (k1 ++ l :: k2, cp) ∧ ct_nd (ct_trk A p k1.length x y) y = (ky, cy) ∧ ct_nd (ct_trk A p k1.length x y) x = (kx ++ [s], cx ++ cl) ∧ (∀ q, q ≠ p → q ≠ x → q ≠ y → ct_nd (ct_trk A p k1.length x y) q = ct_nd A q ∧ ct_trk A p k1.length x y 1 q = A 1 q ∧ ct_trk A p k1.length x y 4 (6 * q) = A 4 (6 * q)) ∧ ct_trk A p k1.length x y 1 p = A 1 p := by
  have sp := ct_nd_kv (A := A) (x := p) (ka := k1) (e := s) (kb := k2) (by rw [hp])
  have ly := ct_nd_kv (A := A) (x := y) (ka := []) (e := l) (kb := ky) (by rw [hy]; rfl)
  have kp := ct_nd_k hp
  have kyy := ct_nd_k hy
  have kxx := ct_nd_k hx
  have capp := ct_nd_cap (A := A) (x := p)
  rw [hp] at capp
  have capy := ct_nd_cap (A := A) (x := y)
  rw [hy] at capy
  simp only [List.length_append, List.length_cons, List.length_nil] at capp capy h1p h1y ly
  rw [show 5 * y + ((0 : Nat) : Int) = 5 * y by omega] at ly
  obtain ⟨e1, e2, e3, e5, _, e4⟩ := ct_tfr_arr (A := A) (p := p) (i := (k1.length : Int)) (x := x) (y := y) hpx hpy hxy (by omega) (by omega) (by omega) (by omega)
  rw [sp.1, ly.1] at e2
  rw [sp.2, ly.2] at e3
  have b1p : ct_trk A p k1.length x y 1 p = A 1 p := by rw [e1, ct_un hpy, ct_un hpx]
  have b1x : ct_trk A p k1.length x y 1 x = ((kx.length + 1 : Nat) : Int) := by rw [e1, ct_un hxy, ct_us, h1x]; omega
  have b1y : ct_trk A p k1.length x y 1 y = (ky.length : Int) := by rw [e1, ct_us]; omega
  have a4 : ∀ q, q ≠ x → q ≠ y → ∀ j, 6 * q ≤ j → j < 6 * q + 6 → ct_trk A p k1.length x y 4 j = A 4 j := by
    intro q hq hqy j h0 h1
    have t : (if A 4 (6 * x) < 0 then A 4 else ct_up (A 4) (6 * x + A 1 x + 1) (A 4 (6 * y))) j = A 4 j := by
      by_cases h : A 4 (6 * x) < 0
      · rw [if_pos h]
      · rw [if_neg h, ct_un (by omega)]
    rw [e4]
    by_cases h : (if A 4 (6 * x) < 0 then A 4 else ct_up (A 4) (6 * x + A 1 x + 1) (A 4 (6 * y))) (6 * y) < 0
    · rw [if_pos h]; exact t
    · rw [if_neg h, ct_sL_out (by omega)]; exact t
  refine ⟨?_, ?_, ?_, ?_, b1p⟩
  · have hcp : (ct_nd A p).2 = cp := by rw [hp]
    refine ct_nd_mk (n := (k1 ++ s :: k2).length) (by rw [b1p]; simp; omega) (by simp; omega) ?_ ?_
    · refine ct_sg_set kp (fun j h0 h1 hj => ?_) ?_
      · simp at h1
        rw [e2, e3, ct_sL_out (by omega), ct_sL_out (by omega), ct_un (by omega), ct_un (by omega), ct_un (by omega), ct_un (by omega)]
      · rw [e2, e3, ct_sL_out (by omega), ct_sL_out (by omega), ct_us, ct_us]
    · by_cases h : A 4 (6 * p) < 0
      · left
        refine ⟨by rw [a4 p hpx hpy _ (by omega) (by omega)]; exact h, ?_⟩
        rw [← hcp]; exact ct_nd_lf.mpr h
      · right
        refine ⟨by rw [a4 p hpx hpy _ (by omega) (by omega)]; exact h, ?_⟩
        cases cp with
        | nil => exact absurd (ct_nd_lf.mp hcp) h
        | cons c cs =>
          have := ct_nd_c hp
          refine Eq.trans (ct_sg_cg _ _ _ (fun j h0 h1 => ?_)) this.1
          simp at h1
          exact a4 p hpx hpy _ (by omega) (by omega)
  · refine ct_nd_mk (n := ky.length) b1y (by omega) ?_ ?_
    · have := ct_sg_del (F := fun j => (A 2 j, A 3 j)) (F' := fun j => (ct_trk A p k1.length x y 2 j, ct_trk A p k1.length x y 3 j)) (ka := []) (kb := ky) (e := l) (b := 5 * y) (n := ky.length) kyy (fun j h0 h1 => by simp at h1; omega) (fun j h0 h1 => ?_)
      · exact this
      · simp at h0
        rw [e2, e3, ct_sL_in (by omega) (by omega), ct_sL_in (by omega) (by omega), ct_un (by omega), ct_un (by omega), ct_un (by omega), ct_un (by omega)]
    · rcases hc with ⟨g1, g2, g3⟩ | ⟨g1, ⟨c, g2, g2'⟩, g3, g4⟩
      · left
        have hlx : A 4 (6 * x) < 0 := ct_nd_lf.mp (by rw [hx, g3])
        have hly : A 4 (6 * y) < 0 := ct_nd_lf.mp (by rw [hy, g1, g2]; rfl)
        refine ⟨?_, g1⟩
        rw [e4, if_pos hlx, if_pos hly]; exact hly
      · right
        have hnx : ¬ A 4 (6 * x) < 0 := fun h => by
          have := ct_nd_lf.mpr h
          rw [hx] at this
          simp only at this
          rw [this] at g3
          simp at g3
        have d := ct_nd_c (A := A) (x := y) (c := c) (cs := cy) (by rw [hy, g2]; rfl)
        have huy : ct_up (A 4) (6 * x + A 1 x + 1) (A 4 (6 * y)) (6 * y) = A 4 (6 * y) := ct_un (by omega)
        have hb4 : ct_trk A p k1.length x y 4 = ct_sL (ct_up (A 4) (6 * x + A 1 x + 1) (A 4 (6 * y))) (6 * y) (6 * y + A 1 y) := by
          rw [e4, if_neg hnx, if_neg (by rw [huy]; exact d.2.1)]
        have hsg : ct_sg (ct_trk A p k1.length x y 4) (6 * y) (ky.length + 1) = cy := by
          rw [hb4]
          have := ct_sg_del (F := A 4) (F' := ct_sL (ct_up (A 4) (6 * x + A 1 x + 1) (A 4 (6 * y))) (6 * y) (6 * y + A 1 y)) (ka := []) (kb := cy) (e := c) (b := 6 * y) (n := ky.length + 1) d.1 (fun j h0 h1 => by simp at h1; omega) (fun j h0 h1 => ?_)
          · exact this
          · simp at h0
            rw [ct_sL_in (by omega) (by omega), ct_un (by omega)]
        refine ⟨?_, hsg⟩
        cases cy with
        | nil => simp at g1
        | cons c0 cy' =>
          simp only [ct_sg] at hsg
          have h1 := (List.cons.inj hsg).1
          have h2 := g4 c0 (by simp)
          omega
  · refine ct_nd_mk (n := kx.length + 1) b1x (by omega) ?_ ?_
    · refine ct_sg_2 (m := kx.length) (n := 1) ?_ ?_
      · refine ct_sg_tk (ka := kx) (kb := []) (by rw [kxx]; simp) rfl (fun j h0 h1 => ?_)
        rw [e2, e3, ct_sL_out (by omega), ct_sL_out (by omega), ct_un (by omega), ct_un (by omega), ct_un (by omega), ct_un (by omega)]
      · simp only [ct_sg]
        have v2 : ct_trk A p k1.length x y 2 (5 * x + kx.length) = s.1 := by rw [e2, ct_sL_out (by omega), ct_un (by omega), h1x, ct_us]
        have v3 : ct_trk A p k1.length x y 3 (5 * x + kx.length) = s.2 := by rw [e3, ct_sL_out (by omega), ct_un (by omega), h1x, ct_us]
        rw [v2, v3]
    · rcases hc with ⟨g1, g2, g3⟩ | ⟨g1, ⟨c, g2, g2'⟩, g3, g4⟩
      · left
        have hlx : A 4 (6 * x) < 0 := ct_nd_lf.mp (by rw [hx, g3])
        have hly : A 4 (6 * y) < 0 := ct_nd_lf.mp (by rw [hy, g1, g2]; rfl)
        refine ⟨?_, by rw [g2, g3]; rfl⟩
        rw [e4, if_pos hlx, if_pos hly]; exact hlx
      · right
        have hnx : ¬ A 4 (6 * x) < 0 := fun h => by
          have := ct_nd_lf.mpr h
          rw [hx] at this
          simp only at this
          rw [this] at g3
          simp at g3
        have d := ct_nd_c (A := A) (x := y) (c := c) (cs := cy) (by rw [hy, g2]; rfl)
        have huy : ct_up (A 4) (6 * x + A 1 x + 1) (A 4 (6 * y)) (6 * y) = A 4 (6 * y) := ct_un (by omega)
        have hb4 : ct_trk A p k1.length x y 4 = ct_sL (ct_up (A 4) (6 * x + A 1 x + 1) (A 4 (6 * y))) (6 * y) (6 * y + A 1 y) := by
          rw [e4, if_neg hnx, if_neg (by rw [huy]; exact d.2.1)]
        have lc : A 4 (6 * y) = c := by
          have := d.1
          simp only [ct_sg] at this
          exact (List.cons.inj this).1
        rw [hb4]
        refine ⟨by rw [ct_sL_out (by omega), ct_un (by omega)]; exact hnx, ?_⟩
        cases cx with
        | nil => simp at g3
        | cons c0 cx' =>
          obtain ⟨d1, d2, d3⟩ := ct_nd_c hx
          rw [g2]
          refine ct_sg_2 (m := kx.length + 1) (n := 1) ?_ ?_
          · refine ct_sg_tk (ka := c0 :: cx') (kb := []) (by rw [d1]; simp) g3.symm (fun j h0 h1 => ?_)
            rw [g3] at h1
            rw [ct_sL_out (by omega), ct_un (by omega)]
          · simp only [ct_sg]
            rw [ct_sL_out (by omega), show 6 * x + ((kx.length + 1 : Nat) : Int) = 6 * x + A 1 x + 1 by omega, ct_us, lc]
  · intro q q1 q2 q3
    have b1q : ct_trk A p k1.length x y 1 q = A 1 q := by rw [e1, ct_un q3, ct_un q2]
    refine ⟨ct_nd_cg b1q (fun j h0 h1 => ⟨?_, ?_⟩) (a4 q q2 q3), b1q, a4 q q2 q3 _ (by omega) (by omega)⟩
    · rw [e2, ct_sL_out (by omega), ct_un (by omega), ct_un (by omega)]
    · rw [e3, ct_sL_out (by omega), ct_un (by omega), ct_un (by omega)]
end
section
/-! ===== 26: what melt does to the nodes ===== -/
theorem ct_mlt_arr {A : Nat → Int → Int} {p i x y : Int} (hpx : p ≠ x) :
    ct_mlt A p i x y 1 = ct_up (ct_up (A 1) x (A 1 x + 1 + A 1 y)) p (A 1 p - 1) ∧ ct_mlt A p i x y 2 = ct_sL (ct_cp (ct_up (A 2) (5 * x + A 1 x) (A 2 (5 * p + i))) (5 * x + (A 1 x + 1)) (5 * y) (A 1 y)) (5 * p + i) (5 * p + (A 1 p - 1)) ∧ ct_mlt A p i x y 3 = ct_sL (ct_cp (ct_up (A 3) (5 * x + A 1 x) (A 3 (5 * p + i))) (5 * x + (A 1 x + 1)) (5 * y) (A 1 y)) (5 * p + i) (5 * p + (A 1 p - 1)) ∧ ct_mlt A p i x y 5 = ct_up (A 5) y 0 ∧ (ct_mlt A p i x y 7 = A 7 ∧ ct_mlt A p i x y 8 = A 8 ∧ ct_mlt A p i x y 9 = A 9 ∧ ct_mlt A p i x y 10 = A 10 ∧ ct_mlt A p i x y 11 = A 11 ∧ ct_mlt A p i x y 12 = A 12 ∧ ct_mlt A p i x y 13 = A 13) ∧ ct_mlt A p i x y 4 = ct_sL (if A 4 (6 * x) < 0 then A 4 else ct_cp (A 4) (6 * x + (A 1 x + 1)) (6 * y) (A 1 y + 1)) (6 * p + (i + 1)) (6 * p + (A 1 p - 1 + 1)) := by
  have hu : ct_up (A 1) x (A 1 x + 1 + A 1 y) p = A 1 p := ct_un hpx
  have hE : ∀ E : Nat → Int → Int, E = ct_m2 (ct_m1 (ct_pat A x (A 1 x) (A 2 (5 * p + i)) (A 3 (5 * p + i))) x y (A 1 x) (A 1 y)) x y (A 1 x) → E 1 = A 1 ∧ E 2 = ct_cp (ct_up (A 2) (5 * x + A 1 x) (A 2 (5 * p + i))) (5 * x + (A 1 x + 1)) (5 * y) (A 1 y) ∧ E 3 = ct_cp (ct_up (A 3) (5 * x + A 1 x) (A 3 (5 * p + i))) (5 * x + (A 1 x + 1)) (5 * y) (A 1 y) ∧ E 4 = (if A 4 (6 * x) < 0 then A 4 else ct_cp (A 4) (6 * x + (A 1 x + 1)) (6 * y) (A 1 y + 1)) ∧ E 5 = A 5 ∧ (E 7 = A 7 ∧ E 8 = A 8 ∧ E 9 = A 9 ∧ E 10 = A 10 ∧ E 11 = A 11 ∧ E 12 = A 12 ∧ E 13 = A 13) := by
    intro E e
    subst e
    unfold ct_m2
    by_cases h : A 4 (6 * x) < 0
    · rw [if_pos (show ct_m1 (ct_pat A x (A 1 x) (A 2 (5 * p + i)) (A 3 (5 * p + i))) x y (A 1 x) (A 1 y) 4 (6 * x) < 0 from h), if_pos h]
      exact ⟨rfl, rfl, rfl, rfl, rfl, rfl, rfl, rfl, rfl, rfl, rfl, rfl⟩
    · rw [if_neg (show ¬ ct_m1 (ct_pat A x (A 1 x) (A 2 (5 * p + i)) (A 3 (5 * p + i))) x y (A 1 x) (A 1 y) 4 (6 * x) < 0 from h), if_neg h]
      exact ⟨rfl, rfl, rfl, rfl, rfl, rfl, rfl, rfl, rfl, rfl, rfl, rfl⟩
  obtain ⟨E1, E2, E3, E4, E5, E7, E8, E9, E10, E11, E12, E13⟩ := hE _ rfl
  have F1 : ct_m3 (ct_m2 (ct_m1 (ct_pat A x (A 1 x) (A 2 (5 * p + i)) (A 3 (5 * p + i))) x y (A 1 x) (A 1 y)) x y (A 1 x)) p i x y (A 1 x) 1 = ct_up (ct_up (A 1) x (A 1 x + 1 + A 1 y)) p (A 1 p - 1) := by
    show ct_up (ct_up (ct_m2 _ x y (A 1 x) 1) x (A 1 x + 1 + ct_m2 _ x y (A 1 x) 1 y)) p (ct_up (ct_m2 _ x y (A 1 x) 1) x (A 1 x + 1 + ct_m2 _ x y (A 1 x) 1 y) p - 1) = _
    rw [E1, hu]
  unfold ct_mlt
  refine ⟨F1, ?_, ?_, ?_, ⟨E7, E8, E9, E10, E11, E12, E13⟩, ?_⟩
  · show ct_sL (ct_m2 _ x y (A 1 x) 2) (5 * p + i) (5 * p + (ct_up (ct_m2 _ x y (A 1 x) 1) x (A 1 x + 1 + ct_m2 _ x y (A 1 x) 1 y) p - 1)) = _
    rw [E1, E2, hu]
  · show ct_sL (ct_m2 _ x y (A 1 x) 3) (5 * p + i) (5 * p + (ct_up (ct_m2 _ x y (A 1 x) 1) x (A 1 x + 1 + ct_m2 _ x y (A 1 x) 1 y) p - 1)) = _
    rw [E1, E3, hu]
  · show ct_up (ct_m2 _ x y (A 1 x) 5) y 0 = _
    rw [E5]
  · show ct_sL (ct_m2 _ x y (A 1 x) 4) (6 * p + (i + 1)) (6 * p + (ct_m3 _ p i x y (A 1 x) 1 p + 1)) = _
    rw [F1, E4, ct_us]
theorem ct_mlt_nd {A : Nat → Int → Int} {p x y : Int} {k1 k2 ky kx : List ct_KV} {s : ct_KV} {c1 c2 cy cx : List Int} (hpx : p ≠ x) (hpy : p ≠ y) (hxy : x ≠ y)
    (hp : ct_nd A p = (k1 ++ s :: k2, c1 ++ x :: y :: c2)) (hl : k1.length = c1.length) (hy : ct_nd A y = (ky, cy)) (hx : ct_nd A x = (kx, cx)) (h1p : A 1 p = ((k1 ++ s :: k2).length : Int)) (h1y : A 1 y = (ky.length : Int)) (h1x : A 1 x = (kx.length : Int)) (hkx : kx.length + 1 + ky.length ≤ 4) (hx0 : 0 ≤ x) (hc1 : ∀ c, c ∈ c1 → 0 ≤ c) (hc : (cy = [] ∧ cx = []) ∨ (cy.length = ky.length + 1 ∧ cx.length = kx.length + 1)) :
    ct_nd (ct_mlt A p k1.length x y) p = (k1 ++ k2, c1 ++ x :: c2) ∧ ct_nd (ct_mlt A p k1.length x y) x = (kx ++ s :: ky, cx ++ cy) ∧ (∀ q, q ≠ p → q ≠ x → ct_nd (ct_mlt A p k1.length x y) q = ct_nd A q ∧ ct_mlt A p k1.length x y 1 q = A 1 q ∧ ct_mlt A p k1.length x y 4 (6 * q) = A 4 (6 * q)) ∧ ct_mlt A p k1.length x y 1 p = ((k1 ++ k2).length : Int) := by
  have sp := ct_nd_kv (A := A) (x := p) (ka := k1) (e := s) (kb := k2) (by rw [hp])
  have kp := ct_nd_k hp
  have kyy := ct_nd_k hy
  have kxx := ct_nd_k hx
  have capp := ct_nd_cap (A := A) (x := p)
  rw [hp] at capp
  simp only [List.length_append, List.length_cons, List.length_nil] at capp h1p
  obtain ⟨e1, e2, e3, e5, _, e4⟩ := ct_mlt_arr (A := A) (p := p) (i := (k1.length : Int)) (x := x) (y := y) hpx
  rw [sp.1] at e2
  rw [sp.2] at e3
  have hcs : ct_sg (A 4) (6 * p) (k1.length + k2.length + 1 + 1) = (c1 ++ [x]) ++ y :: c2 ∧ ¬ A 4 (6 * p) < 0 ∧ k1.length + k2.length + 1 + 1 = c1.length + c2.length + 2 := by
    cases c1 with
    | nil =>
      have := ct_nd_c (A := A) (x := p) (c := x) (cs := y :: c2) hp
      refine ⟨?_, this.2.1, ?_⟩
      · have h := this.1
        simp only [List.length_append, List.length_cons] at h
        rw [show k1.length + k2.length + 1 + 1 = k1.length + (k2.length + 1) + 1 by omega, h]; rfl
      · have h := this.2.2
        simp at h ⊢
        omega
    | cons c c1' =>
      have := ct_nd_c (A := A) (x := p) (c := c) (cs := c1' ++ x :: y :: c2) hp
      refine ⟨?_, this.2.1, ?_⟩
      · have h := this.1
        simp only [List.length_append, List.length_cons] at h
        rw [show k1.length + k2.length + 1 + 1 = k1.length + (k2.length + 1) + 1 by omega, h]; simp
      · have h := this.2.2
        simp at h ⊢
        omega
  have b1p : ct_mlt A p k1.length x y 1 p = ((k1.length + k2.length : Nat) : Int) := by rw [e1, ct_us, h1p]; omega
  have b1x : ct_mlt A p k1.length x y 1 x = ((kx.length + (1 + ky.length) : Nat) : Int) := by rw [e1, ct_un (fun e => hpx e.symm), ct_us, h1x, h1y]; omega
  have hX4 : ∀ q, q ≠ x → ∀ j, 6 * q ≤ j → j < 6 * q + 6 → (if A 4 (6 * x) < 0 then A 4 else ct_cp (A 4) (6 * x + (A 1 x + 1)) (6 * y) (A 1 y + 1)) j = A 4 j := by
    intro q hq j h0 h1
    by_cases h : A 4 (6 * x) < 0
    · rw [if_pos h]
    · rw [if_neg h, ct_cp_out (by omega)]
  have a4 : ∀ q, q ≠ x → q ≠ p → ∀ j, 6 * q ≤ j → j < 6 * q + 6 → ct_mlt A p k1.length x y 4 j = A 4 j := by
    intro q hq hqp j h0 h1
    rw [e4, ct_sL_out (by omega)]
    exact hX4 q hq j h0 h1
  have a4x : ∀ j, 6 * x ≤ j → j < 6 * x + 6 → ct_mlt A p k1.length x y 4 j = (if A 4 (6 * x) < 0 then A 4 else ct_cp (A 4) (6 * x + (A 1 x + 1)) (6 * y) (A 1 y + 1)) j := by
    intro j h0 h1
    rw [e4, ct_sL_out (by omega)]
  refine ⟨?_, ?_, ?_, by rw [b1p]; simp⟩
  · refine ct_nd_mk (n := k1.length + k2.length) b1p (by omega) ?_ (Or.inr ?_)
    · have := ct_sg_del (F := fun j => (A 2 j, A 3 j)) (F' := fun j => (ct_mlt A p k1.length x y 2 j, ct_mlt A p k1.length x y 3 j)) (ka := k1) (kb := k2) (e := s) (b := 5 * p) (n := k1.length + k2.length) (by
        have h := kp
        simp only [List.length_append, List.length_cons] at h
        rw [show k1.length + k2.length + 1 = k1.length + (k2.length + 1) by omega]; exact h) (fun j h0 h1 => ?_) (fun j h0 h1 => ?_)
      · exact this
      · rw [e2, e3, ct_sL_out (by omega), ct_sL_out (by omega), ct_cp_out (by omega), ct_cp_out (by omega), ct_un (by omega), ct_un (by omega)]
      · rw [e2, e3, ct_sL_in (by omega) (by omega), ct_sL_in (by omega) (by omega), ct_cp_out (by omega), ct_cp_out (by omega), ct_un (by omega), ct_un (by omega)]
    · have hsg : ct_sg (ct_mlt A p k1.length x y 4) (6 * p) (k1.length + k2.length + 1) = c1 ++ x :: c2 := by
        have := ct_sg_del (F := A 4) (F' := ct_mlt A p k1.length x y 4) (ka := c1 ++ [x]) (kb := c2) (e := y) (b := 6 * p) (n := k1.length + k2.length + 1) hcs.1 (fun j h0 h1 => ?_) (fun j h0 h1 => ?_)
        · rw [this]; simp
        · simp only [List.length_append, List.length_cons, List.length_nil] at h1
          rw [e4, ct_sL_out (by omega)]
          exact hX4 p hpx _ (by omega) (by omega)
        · simp only [List.length_append, List.length_cons, List.length_nil] at h0
          rw [e4, ct_sL_in (by omega) (by omega)]
          exact hX4 p hpx _ (by omega) (by omega)
      refine ⟨?_, hsg⟩
      cases c1 with
      | nil =>
        simp only [ct_sg, List.nil_append] at hsg
        have := (List.cons.inj hsg).1
        omega
      | cons c c1' =>
        simp only [ct_sg, List.cons_append] at hsg
        have h1 := (List.cons.inj hsg).1
        have h2 := hc1 c (by simp)
        omega
  · refine ct_nd_mk (n := kx.length + (1 + ky.length)) b1x (by omega) ?_ ?_
    · refine ct_sg_2 ?_ ?_
      · refine ct_sg_tk (ka := kx) (kb := []) (by rw [kxx]; simp) rfl (fun j h0 h1 => ?_)
        rw [e2, e3, ct_sL_out (by omega), ct_sL_out (by omega), ct_cp_out (by omega), ct_cp_out (by omega), ct_un (by omega), ct_un (by omega)]
      · have v2 : ct_mlt A p k1.length x y 2 (5 * x + kx.length) = s.1 := by rw [e2, ct_sL_out (by omega), ct_cp_out (by omega), h1x, ct_us]
        have v3 : ct_mlt A p k1.length x y 3 (5 * x + kx.length) = s.2 := by rw [e3, ct_sL_out (by omega), ct_cp_out (by omega), h1x, ct_us]
        have := ct_sg_2 (F := fun j => (ct_mlt A p k1.length x y 2 j, ct_mlt A p k1.length x y 3 j)) (ka := [s]) (kb := ky) (b := 5 * x + kx.length) (m := 1) (n := ky.length) (by simp only [ct_sg]; rw [v2, v3]) (by
          refine ct_sg_dr (ka := []) (kb := ky) (b := 5 * y) (by rw [kyy]; simp) rfl (fun j h0 h1 => ?_)
          have w2 : ct_mlt A p k1.length x y 2 (5 * x + kx.length + ((1 : Nat) : Int) + j) = A 2 (5 * y + j) := by
            rw [e2, ct_sL_out (by omega), show 5 * x + (kx.length : Int) + ((1 : Nat) : Int) + j = 5 * x + (A 1 x + 1) + j by omega, ct_cp_in h0 (by omega), ct_un (by omega)]
          have w3 : ct_mlt A p k1.length x y 3 (5 * x + kx.length + ((1 : Nat) : Int) + j) = A 3 (5 * y + j) := by
            rw [e3, ct_sL_out (by omega), show 5 * x + (kx.length : Int) + ((1 : Nat) : Int) + j = 5 * x + (A 1 x + 1) + j by omega, ct_cp_in h0 (by omega), ct_un (by omega)]
          rw [w2, w3]
          simp)
        exact this
    · rcases hc with ⟨g1, g2⟩ | ⟨g1, g2⟩
      · left
        have hlx : A 4 (6 * x) < 0 := ct_nd_lf.mp (by rw [hx, g2])
        refine ⟨?_, by rw [g1, g2]; rfl⟩
        rw [a4x _ (by omega) (by omega), if_pos hlx]; exact hlx
      · right
        cases cx with
        | nil => simp at g2
        | cons c0 cx' =>
          cases cy with
          | nil => simp at g1
          | cons d0 cy' =>
            obtain ⟨x1, x2, x3⟩ := ct_nd_c hx
            obtain ⟨y1, y2, y3⟩ := ct_nd_c hy
            refine ⟨by rw [a4x _ (by omega) (by omega), if_neg x2, ct_cp_out (by omega)]; exact x2, ?_⟩
            rw [show kx.length + (1 + ky.length) + 1 = (kx.length + 1) + (ky.length + 1) by omega]
            refine ct_sg_2 ?_ ?_
            · refine ct_sg_tk (ka := c0 :: cx') (kb := []) (by rw [x1]; simp) g2.symm (fun j h0 h1 => ?_)
              rw [g2] at h1
              rw [a4x _ (by omega) (by omega), if_neg x2, ct_cp_out (by omega)]
            · refine ct_sg_dr (ka := []) (kb := d0 :: cy') (b := 6 * y) (by rw [y1]; simp) g1.symm (fun j h0 h1 => ?_)
              rw [g1] at h1
              rw [a4x _ (by omega) (by omega), if_neg x2, show 6 * x + ((kx.length + 1 : Nat) : Int) + j = 6 * x + (A 1 x + 1) + j by omega, ct_cp_in h0 (by omega)]
              simp
  · intro q q1 q2
    have b1q : ct_mlt A p k1.length x y 1 q = A 1 q := by rw [e1, ct_un q1, ct_un q2]
    refine ⟨ct_nd_cg b1q (fun j h0 h1 => ⟨?_, ?_⟩) (a4 q q2 q1), b1q, a4 q q2 q1 _ (by omega) (by omega)⟩
    · rw [e2, ct_sL_out (by omega), ct_cp_out (by omega), ct_un (by omega)]
    · rw [e3, ct_sL_out (by omega), ct_cp_out (by omega), ct_un (by omega)]
end
section
/-! ===== 27: two neighbours below p: taken over, melted ===== -/
theorem ct_pl2 {A : Nat → Int → Int} {D : Nat → Nat} {SP CT : List Int} {d : Nat} {fs : List ct_Fr} {p x y : Int} {W : List ct_KV} {k1 k2 kx ky : List ct_KV} {s : ct_KV} {c1 c2 cx cy : List Int} (h : ct_Y A D SP CT (d + 1) fs p W) (hp : ct_nd A p = (k1 ++ s :: k2, c1 ++ x :: y :: c2)) (hl : k1.length = c1.length) (hx : ct_nd A x = (kx, cx)) (hy : ct_nd A y = (ky, cy)) :
    p ≠ x ∧ p ≠ y ∧ x ≠ y ∧ (∀ q, q ∈ ct_pn (ct_nd A) (d + 1) (c1 ++ c2) ++ (ct_pn (ct_nd A) d cx ++ ct_pn (ct_nd A) d cy) → q ≠ p ∧ q ≠ x ∧ q ≠ y) ∧ (∀ q, q ∈ p :: x :: y :: (ct_pn (ct_nd A) (d + 1) (c1 ++ c2) ++ (ct_pn (ct_nd A) d cx ++ ct_pn (ct_nd A) d cy)) ↔ q ∈ ct_pg (ct_nd A) (d + 1) p) ∧ (∀ q, q ∈ ct_pg (ct_nd A) (d + 1) p → q ∉ ct_CP (ct_nd A) (d + 1) fs) := by
  obtain ⟨o1, o2, o3⟩ := ct_two (H := ct_nd A) hp hl hx hy (fun _ _ => rfl)
  have hn := List.nodup_append.mp h.2.1
  have hn2 := o2.nodup_iff.mp hn.1
  rw [List.nodup_cons, List.nodup_cons, List.nodup_cons] at hn2
  refine ⟨fun e => hn2.1 (by rw [e]; simp), fun e => hn2.1 (by rw [e]; simp), fun e => hn2.2.1 (by rw [e]; simp), fun q hq => ⟨fun e => hn2.1 (e ▸ List.mem_cons_of_mem _ (List.mem_cons_of_mem _ hq)), fun e => hn2.2.1 (e ▸ List.mem_cons_of_mem _ hq), fun e => hn2.2.2.1 (e ▸ hq)⟩, fun q => o2.mem_iff.symm, fun q hq hc => hn.2.2 q hq q hc rfl⟩
/-- pairs moved between the two neighbours x y (x left of y) -/
theorem ct_rot_Z {A B : Nat → Int → Int} {D : Nat → Nat} {SP CT : List Int} {d : Nat} {fs : List ct_Fr} {p x y : Int} {W : List ct_KV} {k1 k2 kx ky kx' ky' : List ct_KV} {s s' : ct_KV} {c1 c2 cx cy cx' cy' : List Int} (h : ct_Y A D SP CT (d + 1) fs p W) (hp : ct_nd A p = (k1 ++ s :: k2, c1 ++ x :: y :: c2)) (hl : k1.length = c1.length) (hl2 : k2.length = c2.length) (hx : ct_nd A x = (kx, cx)) (hy : ct_nd A y = (ky, cy)) (hpf : A 5 p = 1) (hxf : A 5 x = 1) (hyf : A 5 y = 1)
    (hnx : ct_no (ct_nd A) d (kx, cx)) (hny : ct_no (ct_nd A) d (ky, cy)) (hnx' : ct_no (ct_nd A) d (kx', cx')) (hny' : ct_no (ct_nd A) d (ky', cy')) (hK : kx' ++ s' :: ky' = kx ++ s :: ky) (hC : cx' ++ cy' = cx ++ cy) (hsib : ∀ c, c ∈ c1 ++ c2 → ct_wf (ct_nd A) d c)
    (hlx : 2 ≤ kx'.length) (hlx4 : kx'.length ≤ 4) (hly : 2 ≤ ky'.length) (hly4 : ky'.length ≤ 4)
    (bp : ct_nd B p = (k1 ++ s' :: k2, c1 ++ x :: y :: c2)) (bx : ct_nd B x = (kx', cx')) (by_ : ct_nd B y = (ky', cy')) (bo : ∀ q, q ≠ p → q ≠ x → q ≠ y → ct_nd B q = ct_nd A q ∧ B 1 q = A 1 q ∧ B 4 (6 * q) = A 4 (6 * q)) (b1 : B 1 p = A 1 p) (a1 : A 1 p = ((k1 ++ s :: k2).length : Int)) (b5 : B 5 = A 5) (b7 : B 7 = A 7) (b10 : B 10 = A 10) (b11 : B 11 = A 11) (b4 : -128 ≤ B 4 (6 * p) ∧ -128 ≤ B 4 (6 * x) ∧ -128 ≤ B 4 (6 * y)) :
    ct_Z B D SP CT (d + 1) fs p W := by
  obtain ⟨e1, e2, e3, e4, e5, e6⟩ := ct_pl2 h hp hl hx hy
  have hin : ∀ q, q ∈ ct_pn (ct_nd A) (d + 1) (c1 ++ c2) ++ (ct_pn (ct_nd A) d cx' ++ ct_pn (ct_nd A) d cy') → q ∈ ct_pn (ct_nd A) (d + 1) (c1 ++ c2) ++ (ct_pn (ct_nd A) d cx ++ ct_pn (ct_nd A) d cy) := by
    intro q hq
    rw [← ct_pn_app (a := cx'), hC, ct_pn_app (a := cx)] at hq
    exact hq
  obtain ⟨t1, t2, t3⟩ := ct_two (G := ct_nd B) (H := ct_nd A) (d := d) bp hl bx by_ (fun q hq => by
    have := e4 q (hin q hq)
    exact (bo q this.1 this.2.1 this.2.2).1)
  obtain ⟨u1, u2, u3⟩ := ct_two (G := ct_nd A) (H := ct_nd A) (d := d) hp hl hx hy (fun _ _ => rfl)
  have j := ct_no_join (m := s) hnx hny
  have j' := ct_no_join (m := s') hnx' hny'
  rw [hK, hC] at j'
  refine ct_Y_Z (ct_Y_mod (N := []) (R := []) (M := [p, x, y]) h ⟨⟨b7, b10, fun k hk => by rw [b11]⟩, fun q hq => ?_⟩ (fun q hq => ?_) ?_ (by simp) (by simp) (by simp) (fun q _ _ => by rw [b5]) (by rw [b11]) ?_) (t3 hnx' hny' hsib hl2 hlx hlx4 hly hly4) ?_
  · simp only [List.mem_cons, List.not_mem_nil, or_false, not_or] at hq
    exact bo q hq.1 hq.2.1 hq.2.2
  · simp only [List.mem_cons, List.not_mem_nil, or_false] at hq
    have S := h.2.2.2.2.2
    rcases hq with e | e | e
    · rw [e]; exact ⟨e6 p ((e5 p).mp (by simp)), ct_Sx_fr S hpf, b4.1⟩
    · rw [e]; exact ⟨e6 x ((e5 x).mp (by simp)), ct_Sx_fr S hxf, b4.2.1⟩
    · rw [e]; exact ⟨e6 y ((e5 y).mp (by simp)), ct_Sx_fr S hyf, b4.2.2⟩
  · rw [List.append_nil, List.nil_append]
    refine List.Perm.trans t2 (List.Perm.trans ?_ u2.symm)
    rw [← ct_pn_app (a := cx'), hC, ct_pn_app (a := cx)]
  · rw [t1, ← j'.2, j.2, ← u1]
    exact h.2.2.2.2.1
  · rw [b1, a1, bp]; simp
/-- the two neighbours x y melted into x -/
theorem ct_mlt_Z {A B : Nat → Int → Int} {D : Nat → Nat} {SP CT : List Int} {d : Nat} {fs : List ct_Fr} {p x y : Int} {W : List ct_KV} {k1 k2 kx ky : List ct_KV} {s : ct_KV} {c1 c2 cx cy : List Int} (h : ct_Y A D SP CT (d + 1) fs p W) (hp : ct_nd A p = (k1 ++ s :: k2, c1 ++ x :: y :: c2)) (hl : k1.length = c1.length) (hl2 : k2.length = c2.length) (hx : ct_nd A x = (kx, cx)) (hy : ct_nd A y = (ky, cy)) (hpf : A 5 p = 1) (hxf : A 5 x = 1) (hyf : A 5 y = 1)
    (hnx : ct_no (ct_nd A) d (kx, cx)) (hny : ct_no (ct_nd A) d (ky, cy)) (hsib : ∀ c, c ∈ c1 ++ c2 → ct_wf (ct_nd A) d c) (hlx : 2 ≤ kx.length + 1 + ky.length) (hlx4 : kx.length + 1 + ky.length ≤ 4)
    (bp : ct_nd B p = (k1 ++ k2, c1 ++ x :: c2)) (bx : ct_nd B x = (kx ++ s :: ky, cx ++ cy)) (bo : ∀ q, q ≠ p → q ≠ x → ct_nd B q = ct_nd A q ∧ B 1 q = A 1 q ∧ B 4 (6 * q) = A 4 (6 * q)) (b1 : B 1 p = ((k1 ++ k2).length : Int)) (b5 : B 5 = ct_up (A 5) y 0) (b7 : B 7 = A 7) (b10 : B 10 = A 10) (b11 : B 11 = A 11) (b4 : -128 ≤ B 4 (6 * p) ∧ -128 ≤ B 4 (6 * x)) :
    ct_Z B D SP CT (d + 1) fs p W := by
  obtain ⟨e1, e2, e3, e4, e5, e6⟩ := ct_pl2 h hp hl hx hy
  have hin : ∀ q, q ∈ ct_pn (ct_nd A) (d + 1) (c1 ++ c2) ++ ct_pn (ct_nd A) d (cx ++ cy) → q ∈ ct_pn (ct_nd A) (d + 1) (c1 ++ c2) ++ (ct_pn (ct_nd A) d cx ++ ct_pn (ct_nd A) d cy) := by
    intro q hq
    rw [ct_pn_app (a := cx)] at hq
    exact hq
  obtain ⟨t1, t2, t3⟩ := ct_one (G := ct_nd B) (H := ct_nd A) (d := d) bp hl bx (fun q hq => by
    have := e4 q (hin q hq)
    exact (bo q this.1 this.2.1).1)
  obtain ⟨u1, u2, u3⟩ := ct_two (G := ct_nd A) (H := ct_nd A) (d := d) hp hl hx hy (fun _ _ => rfl)
  have j := ct_no_join (m := s) hnx hny
  have S := h.2.2.2.2.2
  refine ct_Y_Z (ct_Y_mod (N := []) (R := [y]) (M := [p, x]) h ⟨⟨b7, b10, fun k hk => by rw [b11]⟩, fun q hq => ?_⟩ (fun q hq => ?_) ?_ (by simp) (by simp) (fun q hq => ?_) (fun q _ hq => ?_) (by rw [b11]) ?_) (t3 j.1 hsib hl2 (by simp; omega) (by simp; omega)) ?_
  · simp only [List.mem_cons, List.not_mem_nil, or_false, not_or] at hq
    exact bo q hq.1 hq.2
  · simp only [List.mem_cons, List.not_mem_nil, or_false] at hq
    rcases hq with e | e
    · rw [e]; exact ⟨e6 p ((e5 p).mp (by simp)), ct_Sx_fr S hpf, b4.1⟩
    · rw [e]; exact ⟨e6 x ((e5 x).mp (by simp)), ct_Sx_fr S hxf, b4.2⟩
  · rw [List.nil_append]
    refine List.Perm.trans (List.Perm.append_right [y] t2) (List.Perm.trans ?_ u2.symm)
    rw [ct_pn_app (a := cx)]
    refine List.Perm.trans List.perm_append_comm ?_
    show (y :: p :: x :: _).Perm _
    refine List.Perm.trans (List.Perm.swap p y _) ?_
    exact List.Perm.cons p (List.Perm.swap x y _)
  · simp only [List.mem_cons, List.not_mem_nil, or_false] at hq
    rw [hq, b5, ct_us]
  · simp only [List.mem_cons, List.not_mem_nil, or_false] at hq
    rw [b5, ct_un hq]
  · rw [t1, j.2, ← u1]
    exact h.2.2.2.2.1
  · rw [b1, bp]
/-- a child of p copied -/
theorem ct_nbr {A : Nat → Int → Int} {D : Nat → Nat} {SP CT : List Int} {d : Nat} {fs : List ct_Fr} {p y c : Int} {W : List ct_KV} {ks : List ct_KV} {c1 c2 : List Int} {f g : Int → Int} (h : ct_Y A D SP CT (d + 1) fs p W) (hp : ct_nd A p = (ks, c1 ++ y :: c2)) (hl : c1.length ≤ 5) (hpf : A 5 p = 1) (hyf : A 5 y = 0) (hc0 : 0 ≤ c) (hc1 : c < 100) (hcS : c ∉ SP) (hcW : c ∉ ct_pg (ct_nd A) (d + 1) p ++ ct_CP (ct_nd A) (d + 1) fs) :
    ct_Y (ct_chd (ct_fc A y c g f) p c1.length c) D SP CT (d + 1) fs p W ∧ ct_nd (ct_chd (ct_fc A y c g f) p c1.length c) p = (ks, c1 ++ c :: c2) ∧ ct_nd (ct_chd (ct_fc A y c g f) p c1.length c) c = ct_nd A y ∧ (∀ q, q ≠ p → q ≠ c → ct_nd (ct_chd (ct_fc A y c g f) p c1.length c) q = ct_nd A q ∧ ct_chd (ct_fc A y c g f) p c1.length c 1 q = A 1 q ∧ ct_chd (ct_fc A y c g f) p c1.length c 4 (6 * q) = A 4 (6 * q)) ∧ (ct_wf (ct_nd A) d y → ct_wf (ct_nd (ct_chd (ct_fc A y c g f) p c1.length c)) d c) ∧ p ≠ c ∧ y ≠ c := by
  obtain ⟨z1, z3, z4, z5, z6, z8⟩ := h
  have hn := List.nodup_append.mp z3
  have hpg : ct_pg (ct_nd A) (d + 1) p = p :: ((c1.map (ct_pg (ct_nd A) d)).flatten ++ (ct_pg (ct_nd A) d y ++ (c2.map (ct_pg (ct_nd A) d)).flatten)) := by simp [ct_pg, hp]
  have hyp : y ∈ ct_pg (ct_nd A) (d + 1) p := by
    rw [hpg]
    have := ct_pg_self (ct_nd A) d y
    simp [this]
  have hpp : p ∈ ct_pg (ct_nd A) (d + 1) p := ct_pg_self _ _ _
  have hcp : p ≠ c := fun e => hcW (e ▸ List.mem_append.mpr (Or.inl hpp))
  have hyc : y ≠ c := fun e => hcW (e ▸ List.mem_append.mpr (Or.inl hyp))
  have hn1 := hn.1
  rw [hpg, List.nodup_cons] at hn1
  have hypn : y ≠ p := by
    intro e
    apply hn1.1
    rw [← e]
    have := ct_pg_self (ct_nd A) d y
    simp [this]
  have hB : ∀ q, q ≠ p → q ≠ c → ct_nd (ct_chd (ct_fc A y c g f) p c1.length c) q = ct_nd A q ∧ ct_chd (ct_fc A y c g f) p c1.length c 1 q = A 1 q ∧ ct_chd (ct_fc A y c g f) p c1.length c 4 (6 * q) = A 4 (6 * q) := by
    intro q hqp hqc
    refine ⟨?_, ?_, ?_⟩
    · rw [← ct_nd_fc (A := A) (x := y) (g := g) (f := f) hqc]
      exact ct_nd_cg rfl (fun j _ _ => ⟨rfl, rfl⟩) (fun j _ _ => ct_un (by omega))
    · show ct_up (ct_up (A 1) c 0) c (A 1 y) q = A 1 q
      rw [ct_un hqc, ct_un hqc]
    · show ct_up (ct_cp (ct_up (A 4) (6 * c) (-1)) (6 * c) (6 * y) 6) (6 * p + c1.length) c (6 * q) = A 4 (6 * q)
      rw [ct_un (by omega), ct_cp_out (by omega), ct_un (by omega)]
  have hBp : ct_nd (ct_chd (ct_fc A y c g f) p c1.length c) p = (ks, c1 ++ c :: c2) := ct_nd_chd (x := y) (by rw [ct_nd_fc hcp]; exact hp) hl hc0
  have hBc : ct_nd (ct_chd (ct_fc A y c g f) p c1.length c) c = ct_nd A y := by
    rw [← ct_nd_fc_c (A := A) (x := y) (g := g) (f := f) hyc]
    exact ct_nd_cg rfl (fun j _ _ => ⟨rfl, rfl⟩) (fun j _ _ => ct_un (by omega))
  have hB5 : ct_chd (ct_fc A y c g f) p c1.length c 5 = ct_up (A 5) c 1 := rfl
  have hcA : ∀ q, q ∈ ct_pg (ct_nd A) (d + 1) p → q ≠ c := fun q hq e => hcW (e ▸ List.mem_append.mpr (Or.inl hq))
  have hsub : ∀ c', c' ∈ c1 ++ y :: c2 → ∀ q, q ∈ ct_pg (ct_nd A) d c' → q ≠ p ∧ q ≠ c := by
    intro c' hc' q hq
    have hm : q ∈ (c1.map (ct_pg (ct_nd A) d)).flatten ++ (ct_pg (ct_nd A) d y ++ (c2.map (ct_pg (ct_nd A) d)).flatten) := by
      simp only [List.mem_append, List.mem_cons] at hc'
      simp only [List.mem_append, List.mem_flatten, List.mem_map]
      rcases hc' with h | h | h
      · exact Or.inl ⟨_, ⟨c', h, rfl⟩, hq⟩
      · rw [← h]; exact Or.inr (Or.inl hq)
      · exact Or.inr (Or.inr ⟨_, ⟨c', h, rfl⟩, hq⟩)
    refine ⟨fun e => hn1.1 (e ▸ hm), hcA q ?_⟩
    rw [hpg]; exact List.mem_cons_of_mem _ hm
  have hsib : ∀ c', c' ∈ c1 ++ y :: c2 → ∀ q, q ∈ ct_pg (ct_nd A) d c' → ct_nd (ct_chd (ct_fc A y c g f) p c1.length c) q = ct_nd A q := fun c' hc' q hq => (hB q (hsub c' hc' q hq).1 (hsub c' hc' q hq).2).1
  have hyn : (ct_pg (ct_nd A) d y).Nodup := by
    have := hn1.2
    rw [List.nodup_append] at this
    exact (List.nodup_append.mp this.2.1).1
  obtain ⟨r1, r2, tl, r3, r4⟩ := ct_rn (H := ct_nd A) (H' := ct_nd (ct_chd (ct_fc A y c g f) p c1.length c)) (d := d) hBc (fun q hq _ => hsib y (by simp) q hq) hyn
  have m1 : c1.map (ct_fl (ct_nd (ct_chd (ct_fc A y c g f) p c1.length c)) d) = c1.map (ct_fl (ct_nd A) d) := List.map_congr_left (fun c' hm => (ct_cg d c' (hsib c' (by simp [hm]))).2.1)
  have m2 : c2.map (ct_fl (ct_nd (ct_chd (ct_fc A y c g f) p c1.length c)) d) = c2.map (ct_fl (ct_nd A) d) := List.map_congr_left (fun c' hm => (ct_cg d c' (hsib c' (by simp [hm]))).2.1)
  have n1 : c1.map (ct_pg (ct_nd (ct_chd (ct_fc A y c g f) p c1.length c)) d) = c1.map (ct_pg (ct_nd A) d) := List.map_congr_left (fun c' hm => (ct_cg d c' (hsib c' (by simp [hm]))).1)
  have n2 : c2.map (ct_pg (ct_nd (ct_chd (ct_fc A y c g f) p c1.length c)) d) = c2.map (ct_pg (ct_nd A) d) := List.map_congr_left (fun c' hm => (ct_cg d c' (hsib c' (by simp [hm]))).1)
  refine ⟨ct_Y_mod (N := [c]) (R := [y]) (M := [p, c]) ⟨z1, z3, z4, z5, z6, z8⟩ ⟨⟨rfl, rfl, fun _ _ => rfl⟩, fun q hq => ?_⟩ (fun q hq => ?_) ?_ (fun q hq => ?_) (by simp) (fun q hq => ?_) (fun q hq _ => ?_) rfl ?_, hBp, hBc, hB, fun hw => ?_, hcp, hyc⟩
  · simp only [List.mem_cons, List.not_mem_nil, or_false, not_or] at hq
    exact hB q hq.1 hq.2
  · simp only [List.mem_cons, List.not_mem_nil, or_false] at hq
    rcases hq with e | e
    · subst e
      refine ⟨fun hm => hn.2.2 q hpp q hm rfl, ct_Sx_fr z8 hpf, ?_⟩
      show -128 ≤ ct_up (ct_cp (ct_up (A 4) (6 * c) (-1)) (6 * c) (6 * y) 6) (6 * q + c1.length) c (6 * q)
      have := (z4 q (List.mem_append.mpr (Or.inl hpp))).2.2.1
      by_cases e0 : c1.length = 0
      · rw [show 6 * q + (c1.length : Int) = 6 * q by omega, ct_us]; omega
      · rw [ct_un (by omega), ct_cp_out (by omega), ct_un (by omega)]; exact this
    · subst e
      refine ⟨fun hm => hcW (List.mem_append.mpr (Or.inr hm)), hcS, ?_⟩
      show -128 ≤ ct_up (ct_cp (ct_up (A 4) (6 * q) (-1)) (6 * q) (6 * y) 6) (6 * p + c1.length) q (6 * q)
      rw [ct_un (by omega)]
      have := ct_cp_in (f := ct_up (A 4) (6 * q) (-1)) (d := 6 * q) (s := 6 * y) (n := 6) (j := 0) (by omega) (by omega)
      rw [Int.add_zero, Int.add_zero, ct_un (by omega)] at this
      rw [this]
      exact (z4 y (List.mem_append.mpr (Or.inl hyp))).2.2.1
  · have hpgB : ct_pg (ct_nd (ct_chd (ct_fc A y c g f) p c1.length c)) (d + 1) p = p :: ((c1.map (ct_pg (ct_nd A) d)).flatten ++ ((c :: tl) ++ (c2.map (ct_pg (ct_nd A) d)).flatten)) := by
      simp only [ct_pg, hBp, List.map_append, List.map_cons, List.flatten_append, List.flatten_cons]
      rw [n1, n2, r4]
    rw [hpgB, hpg, r3]
    simp only [List.cons_append, List.nil_append]
    refine List.Perm.trans ?_ (List.Perm.swap c p _)
    refine List.Perm.cons p ?_
    refine List.Perm.trans (List.Perm.append_right [y] List.perm_middle) ?_
    simp only [List.cons_append]
    refine List.Perm.cons c ?_
    refine List.Perm.trans List.perm_append_comm ?_
    simp only [List.cons_append, List.nil_append]
    exact List.perm_middle.symm
  · simp only [List.mem_cons, List.not_mem_nil, or_false] at hq
    subst hq
    exact ⟨hc0, hc1, fun hm => hcA q hm rfl, by rw [hB5]; exact ct_us, by simp⟩
  · simp only [List.mem_cons, List.not_mem_nil, or_false] at hq
    rw [hq, hB5, ct_un hyc]; exact hyf
  · simp only [List.mem_cons, List.not_mem_nil, or_false] at hq
    rw [hB5, ct_un hq]
  · have : ct_fl (ct_nd (ct_chd (ct_fc A y c g f) p c1.length c)) (d + 1) p = ct_fl (ct_nd A) (d + 1) p := by
      simp only [ct_fl, hBp, hp, List.map_append, List.map_cons]
      rw [m1, m2, r1]
    rw [this]; exact z6
  · unfold ct_wf at hw ⊢
    rw [hBc]
    exact ⟨r2 hw.1, hw.2⟩
end
section
/-! ===== 28: refill ===== -/
theorem ct_st_self (A : Nat → Int → Int) (k : Nat) : ct_st A k (A k) = A := by
  funext k'
  unfold ct_st
  by_cases h : k' = k
  · subst h
    cases Nat.beq k' k' <;> rfl
  · have : Nat.beq k' k = false := by
      cases hb : Nat.beq k' k
      · rfl
      · exact absurd (Nat.eq_of_beq_eq_true hb) h
    rw [this]; rfl
def ct_EF (A E : Nat → Int → Int) (D : Nat → Nat) (SP CT : List Int) (d : Nat) (fs : List ct_Fr) (p x y y' : Int) (W ks : List ct_KV) (c1 c2 sb : List Int) : Prop :=
  ct_Y E D SP CT (d + 1) fs p W ∧ ct_nd E p = (ks, c1 ++ y' :: c2) ∧ ct_nd E y' = ct_nd A y ∧ E 1 y' = A 1 y ∧ (∀ q, q ≠ p → q ≠ y' → ct_nd E q = ct_nd A q ∧ E 1 q = A 1 q ∧ E 4 (6 * q) = A 4 (6 * q)) ∧ E 1 p = A 1 p ∧ E 5 y' = 1 ∧ (∀ q, A 5 q = 1 → E 5 q = 1) ∧ ct_Ot SP A E ∧ ct_wf (ct_nd E) d y' ∧ y' ≠ x ∧ y' ≠ p ∧ ct_sh (ct_nd E) d x ∧ (∀ c, c ∈ sb → ct_wf (ct_nd E) d c)
theorem ct_rf_fc {post : Int32 → St1 → Prop} {A : Nat → Int → Int} {D : Nat → Nat} {SP CT : List Int} {d : Nat} {fs : List ct_Fr} {x p y n : Int} {W : List ct_KV} {ka kb : List ct_KV} {ca cb c1 c2 : List Int} {f g : Int → Int} (hz : ct_Z A D SP CT d ((p, (ka, ca), (kb, cb)) :: fs) x W) (h1 : 1 ≤ (ct_nd A x).1.length) (hW : W.length ≤ 25) (hpf : A 5 p = 1) (hcs : ca ++ x :: cb = c1 ++ y :: c2) (hy : y ∈ ca ++ cb)
    (hp : ∀ E0 y', 0 ≤ y' → y' < 100 → ct_EF A (ct_chd E0 p c1.length y') D SP CT d fs p x y y' W (ka ++ kb) c1 c2 (ca ++ cb) → post (ct_i y') (ct_lf (ct_wy E0 n f g))) : wpX_freshCopy post (ct_lf (ct_wy A n f g)) (ct_i y) := by
  obtain ⟨hY, hnp, hl1, hl2, hl3, hl4, hsib⟩ := ct_Y_up (ct_Z_Y hz)
  have hpg := ct_up_pg (d := d) hnp (ct_CP (ct_nd A) (d + 1) fs)
  have hcsl : c1.length ≤ 5 := by
    have := congrArg List.length hcs
    simp at this
    omega
  have hnp' : ct_nd A p = (ka ++ kb, c1 ++ y :: c2) := by rw [hnp, hcs]
  have hyW : y ∈ ct_pg (ct_nd A) d x ++ ct_CP (ct_nd A) d ((p, (ka, ca), (kb, cb)) :: fs) := by
    refine List.mem_append.mpr (Or.inr ?_)
    simp only [ct_CP, List.mem_cons, List.mem_append, List.mem_flatten, List.mem_map]
    exact Or.inr (Or.inl ⟨_, ⟨y, List.mem_append.mp hy, rfl⟩, ct_pg_self _ _ _⟩)
  have hnd := hz.2.2.1
  have hpW : p ∈ ct_CP (ct_nd A) d ((p, (ka, ca), (kb, cb)) :: fs) := by simp [ct_CP]
  have hxy : y ≠ x := by
    intro e
    refine (List.nodup_append.mp hnd).2.2 x (ct_pg_self _ _ _) y ?_ e.symm
    simp only [ct_CP, List.mem_cons, List.mem_append, List.mem_flatten, List.mem_map]
    exact Or.inr (Or.inl ⟨_, ⟨y, List.mem_append.mp hy, rfl⟩, ct_pg_self _ _ _⟩)
  have hyp : y ≠ p := by
    intro e
    have := (List.nodup_append.mp hnd).2.1
    simp only [ct_CP, List.nodup_cons] at this
    refine this.1 ?_
    rw [← e]
    simp only [List.mem_append, List.mem_flatten, List.mem_map]
    exact Or.inl ⟨_, ⟨y, List.mem_append.mp hy, rfl⟩, ct_pg_self _ _ _⟩
  have hyr := hz.2.2.2.1 y hyW
  refine ct_Z_fc (A := ct_wy A n f g) (x := x) hz h1 (ct_nd_cap (A := A)) hW hyW (fun hf => ?_) (fun hf hyC c f' g' hc0 hc1 hcS hcW hc5 hcy => ?_)
  · have hf' : A 5 y = 1 := hf
    have hch : A 4 (6 * p + c1.length) = y := ct_nd_ch (by rw [hnp'])
    have hself : ct_chd A p c1.length y = A := by
      unfold ct_chd
      rw [← hch, ct_up_self, ct_st_self]
    refine hp A y hyr.1 hyr.2.1 ?_
    rw [hself]
    exact ⟨hY, hnp', rfl, rfl, fun q _ _ => ⟨rfl, rfl, rfl⟩, rfl, hf', fun q h => h, ct_Ot_r SP A, hsib y hy, hxy, hyp, hz.2.1, hsib⟩
  · have hf' : A 5 y = 0 := hf
    have hcW' : c ∉ ct_pg (ct_nd A) (d + 1) p ++ ct_CP (ct_nd A) (d + 1) fs := fun hm => hcW (hpg.mem_iff.mp hm)
    obtain ⟨b1, b2, b3, b4, b5, b6, b7⟩ := ct_nbr (g := g') (f := f') hY hnp' hcsl hpf hf' hc0 hc1 hcS hcW'
    have hxc : c ≠ x := fun e => hcW (e ▸ List.mem_append.mpr (Or.inl (ct_pg_self _ _ _)))
    refine hp (ct_fc A y c g' f') c hc0 hc1 ⟨b1, b2, b3, ?_, b4, ?_, ?_, fun q hq => ?_, ⟨⟨rfl, rfl, rfl, rfl, rfl, rfl, fun _ _ => rfl⟩, fun q hq => ?_⟩, b5 (hsib y hy), hxc, fun e => b6 e.symm, (ct_cg d x (fun q hq => ?_)).2.2 hz.2.1, fun c' hc' => ct_wf_cg (fun q hq => ?_) (hsib c' hc')⟩
    · exact (show ct_up (ct_up (A 1) c 0) c (A 1 y) c = A 1 y from ct_us)
    · show ct_up (ct_up (A 1) c 0) c (A 1 y) p = A 1 p
      rw [ct_un b6, ct_un b6]
    · exact (show ct_up (A 5) c 1 c = 1 from ct_us)
    · show ct_up (A 5) c 1 q = 1
      by_cases e : q = c
      · rw [e, ct_us]
      · rw [ct_un e]; exact hq
    · have qc : q ≠ c := fun e => hcS (e ▸ hq)
      have qp : q ≠ p := fun e => ct_Sx_fr hz.2.2.2.2.2.2.2 hpf (e ▸ hq)
      exact ⟨(b4 q qp qc).1, (b4 q qp qc).2.2⟩
    · have qc : q ≠ c := fun e => hcW (e ▸ List.mem_append.mpr (Or.inl hq))
      have qp : q ≠ p := fun e => (List.nodup_append.mp hnd).2.2 q hq p hpW e
      exact (b4 q qp qc).1
    · have hqs : q ∈ ((ca ++ cb).map (ct_pg (ct_nd A) d)).flatten ++ ct_CP (ct_nd A) (d + 1) fs := by
        simp only [List.mem_append, List.mem_flatten, List.mem_map]
        exact Or.inl ⟨_, ⟨c', List.mem_append.mp hc', rfl⟩, hq⟩
      have qc : q ≠ c := fun e => hcW (e ▸ List.mem_append.mpr (Or.inr (by simp only [ct_CP, List.mem_cons]; exact Or.inr hqs)))
      have qp : q ≠ p := by
        intro e
        have := (List.nodup_append.mp hnd).2.1
        simp only [ct_CP, List.nodup_cons] at this
        exact this.1 (e ▸ hqs)
      exact (b4 q qp qc).1
theorem ct_fr_CP {H : ct_Hp} : ∀ (fs : List ct_Fr) (d : Nat) (fr : ct_Fr), fr ∈ fs → fr.1 ∈ ct_CP H d fs := by
  intro fs
  induction fs with
  | nil => intro d fr h; simp at h
  | cons a fs ih =>
    obtain ⟨p, ⟨ka, ca⟩, kb, cb⟩ := a
    intro d fr h
    simp only [ct_CP, List.mem_cons, List.mem_append]
    rcases List.mem_cons.mp h with e | e
    · rw [e]; exact Or.inl rfl
    · exact Or.inr (Or.inr (ih (d + 1) fr e))
/-- the range of a page's first child in a state of a change -/
theorem ct_Y_b4 {A : Nat → Int → Int} {D : Nat → Nat} {SP CT : List Int} {d : Nat} {fs : List ct_Fr} {p x : Int} {W : List ct_KV} (h : ct_Y A D SP CT (d + 1) fs p W) (hx : x ∈ (ct_nd A p).2) (hs : ct_no (ct_nd A) d (ct_nd A x)) : 0 ≤ x ∧ x < 100 ∧ -128 ≤ A 4 (6 * x) ∧ A 4 (6 * x) < 128 := by
  have hxp : x ∈ ct_pg (ct_nd A) (d + 1) p := by
    simp only [ct_pg, List.mem_cons, List.mem_flatten, List.mem_map]
    exact Or.inr ⟨_, ⟨x, hx, rfl⟩, ct_pg_self _ _ _⟩
  have r := h.2.2.1 x (List.mem_append.mpr (Or.inl hxp))
  refine ⟨r.1, r.2.1, r.2.2.1, ?_⟩
  cases hc : (ct_nd A x).2 with
  | nil => have := ct_nd_lf.mp hc; omega
  | cons c cs =>
    have e := ct_nd_ch (A := A) (x := x) (ca := []) (by simpa using hc)
    cases d with
    | zero => simp only [ct_no] at hs; rw [hc] at hs; simp at hs
    | succ d =>
      have hcp : c ∈ ct_pg (ct_nd A) (d + 1 + 1) p := by
        simp only [ct_pg, List.mem_cons, List.mem_flatten, List.mem_map]
        refine Or.inr ⟨_, ⟨x, hx, rfl⟩, ?_⟩
        rw [hc]
        simp only [List.mem_cons, List.mem_flatten, List.mem_map]
        exact Or.inr ⟨_, ⟨c, Or.inl rfl, rfl⟩, ct_pg_self _ _ _⟩
      have := h.2.2.1 c (List.mem_append.mpr (Or.inl hcp))
      simp at e
      omega
/-- the children of a node in a state of a change are pages -/
theorem ct_Y_ch {A : Nat → Int → Int} {D : Nat → Nat} {SP CT : List Int} {d : Nat} {fs : List ct_Fr} {p x c : Int} {W : List ct_KV} (h : ct_Y A D SP CT (d + 1) fs p W) (hx : x ∈ (ct_nd A p).2) (hd : 0 < d) (hc : c ∈ (ct_nd A x).2) : 0 ≤ c := by
  cases d with
  | zero => omega
  | succ d =>
    have hcp : c ∈ ct_pg (ct_nd A) (d + 1 + 1) p := by
      simp only [ct_pg, List.mem_cons, List.mem_flatten, List.mem_map]
      refine Or.inr ⟨_, ⟨x, hx, rfl⟩, ?_⟩
      simp only [List.mem_cons, List.mem_flatten, List.mem_map]
      exact Or.inr ⟨_, ⟨c, hc, rfl⟩, ct_pg_self _ _ _⟩
    exact (h.2.2.1 c (List.mem_append.mpr (Or.inl hcp))).1
theorem ct_lf_ext {X Y : Nat → Int → Int} (h0 : X 0 0 = Y 0 0) (h1 : X 1 = Y 1) (h2 : X 2 = Y 2) (h3 : X 3 = Y 3) (h4 : X 4 = Y 4) (h5 : X 5 = Y 5) (h6 : X 6 = Y 6) (h7 : X 7 = Y 7) (h8 : X 8 = Y 8) (h9 : X 9 = Y 9) (h10 : X 10 = Y 10) (h11 : X 11 = Y 11) (h12 : X 12 = Y 12) (h13 : X 13 = Y 13) (h14 : X 14 = Y 14) (h15 : X 15 = Y 15) (h16 : X 16 = Y 16) : ct_lf X = ct_lf Y := by
  unfold ct_lf
  rw [h0, h1, h2, h3, h4, h5, h6, h7, h8, h9, h10, h11, h12, h13, h14, h15, h16]
theorem ct_trk_wy {E : Nat → Int → Int} {p i x y n : Int} {f g : Int → Int} : ct_lf (ct_trk (ct_wy E n f g) p i x y) = ct_lf (ct_wy (ct_trk E p i x y) n f g) := by
  unfold ct_trk
  by_cases hh : E 4 (6 * x) < 0
  · have e1 : ct_tr4 (ct_pat (ct_wy E n f g) x (ct_wy E n f g 1 x) (ct_wy E n f g 2 (5 * p + i)) (ct_wy E n f g 3 (5 * p + i))) x y = ct_pat (ct_wy E n f g) x (ct_wy E n f g 1 x) (ct_wy E n f g 2 (5 * p + i)) (ct_wy E n f g 3 (5 * p + i)) := if_pos hh
    have e2 : ct_tr4 (ct_pat E x (E 1 x) (E 2 (5 * p + i)) (E 3 (5 * p + i))) x y = ct_pat E x (E 1 x) (E 2 (5 * p + i)) (E 3 (5 * p + i)) := if_pos hh
    rw [e1, e2]
    unfold ct_trs
    by_cases hk : E 4 (6 * y) < 0
    · rw [if_pos (show ct_trp (ct_pat (ct_wy E n f g) x (ct_wy E n f g 1 x) (ct_wy E n f g 2 (5 * p + i)) (ct_wy E n f g 3 (5 * p + i))) p i x y 4 (6 * y) < 0 from hk), if_pos (show ct_trp (ct_pat E x (E 1 x) (E 2 (5 * p + i)) (E 3 (5 * p + i))) p i x y 4 (6 * y) < 0 from hk)]
      apply ct_lf_ext <;> rfl
    · rw [if_neg (show ¬ ct_trp (ct_pat (ct_wy E n f g) x (ct_wy E n f g 1 x) (ct_wy E n f g 2 (5 * p + i)) (ct_wy E n f g 3 (5 * p + i))) p i x y 4 (6 * y) < 0 from hk), if_neg (show ¬ ct_trp (ct_pat E x (E 1 x) (E 2 (5 * p + i)) (E 3 (5 * p + i))) p i x y 4 (6 * y) < 0 from hk)]
      apply ct_lf_ext <;> rfl
  · have e1 : ct_tr4 (ct_pat (ct_wy E n f g) x (ct_wy E n f g 1 x) (ct_wy E n f g 2 (5 * p + i)) (ct_wy E n f g 3 (5 * p + i))) x y = ct_st (ct_pat (ct_wy E n f g) x (ct_wy E n f g 1 x) (ct_wy E n f g 2 (5 * p + i)) (ct_wy E n f g 3 (5 * p + i))) 4 (ct_up (E 4) (6 * x + E 1 x + 1) (E 4 (6 * y))) := if_neg hh
    have e2 : ct_tr4 (ct_pat E x (E 1 x) (E 2 (5 * p + i)) (E 3 (5 * p + i))) x y = ct_st (ct_pat E x (E 1 x) (E 2 (5 * p + i)) (E 3 (5 * p + i))) 4 (ct_up (E 4) (6 * x + E 1 x + 1) (E 4 (6 * y))) := if_neg hh
    rw [e1, e2]
    unfold ct_trs
    by_cases hk : ct_up (E 4) (6 * x + E 1 x + 1) (E 4 (6 * y)) (6 * y) < 0
    · rw [if_pos (show ct_trp (ct_st (ct_pat (ct_wy E n f g) x (ct_wy E n f g 1 x) (ct_wy E n f g 2 (5 * p + i)) (ct_wy E n f g 3 (5 * p + i))) 4 (ct_up (E 4) (6 * x + E 1 x + 1) (E 4 (6 * y)))) p i x y 4 (6 * y) < 0 from hk), if_pos (show ct_trp (ct_st (ct_pat E x (E 1 x) (E 2 (5 * p + i)) (E 3 (5 * p + i))) 4 (ct_up (E 4) (6 * x + E 1 x + 1) (E 4 (6 * y)))) p i x y 4 (6 * y) < 0 from hk)]
      apply ct_lf_ext <;> rfl
    · rw [if_neg (show ¬ ct_trp (ct_st (ct_pat (ct_wy E n f g) x (ct_wy E n f g 1 x) (ct_wy E n f g 2 (5 * p + i)) (ct_wy E n f g 3 (5 * p + i))) 4 (ct_up (E 4) (6 * x + E 1 x + 1) (E 4 (6 * y)))) p i x y 4 (6 * y) < 0 from hk), if_neg (show ¬ ct_trp (ct_st (ct_pat E x (E 1 x) (E 2 (5 * p + i)) (E 3 (5 * p + i))) 4 (ct_up (E 4) (6 * x + E 1 x + 1) (E 4 (6 * y)))) p i x y 4 (6 * y) < 0 from hk)]
      apply ct_lf_ext <;> rfl
theorem ct_tlk_wy {E : Nat → Int → Int} {p i x y n : Int} {f g : Int → Int} : ct_lf (ct_tlk (ct_tl4 (ct_wy E n f g) x y) p i x y) = ct_lf (ct_wy (ct_tlk (ct_tl4 E x y) p i x y) n f g) := by
  by_cases hh : E 4 (6 * x) < 0
  · have e1 : ct_tl4 (ct_wy E n f g) x y = ct_wy E n f g := if_pos hh
    have e2 : ct_tl4 E x y = E := if_pos hh
    rw [e1, e2]
    apply ct_lf_ext <;> rfl
  · have e1 : ct_tl4 (ct_wy E n f g) x y = ct_st (ct_wy E n f g) 4 (ct_up (ct_sR (E 4) (6 * x) (6 * x + (E 1 x + 1))) (6 * x) (E 4 (6 * y + E 1 y))) := if_neg hh
    have e2 : ct_tl4 E x y = ct_st E 4 (ct_up (ct_sR (E 4) (6 * x) (6 * x + (E 1 x + 1))) (6 * x) (E 4 (6 * y + E 1 y))) := if_neg hh
    rw [e1, e2]
    apply ct_lf_ext <;> rfl
theorem ct_mlt_arr2 {A : Nat → Int → Int} {p i x y : Int} : ct_mlt A p i x y 0 = A 0 ∧ ct_mlt A p i x y 6 = A 6 ∧ ct_mlt A p i x y 14 = A 14 ∧ ct_mlt A p i x y 15 = A 15 ∧ ct_mlt A p i x y 16 = A 16 := by
  have hE : ∀ E : Nat → Int → Int, E = ct_m2 (ct_m1 (ct_pat A x (A 1 x) (A 2 (5 * p + i)) (A 3 (5 * p + i))) x y (A 1 x) (A 1 y)) x y (A 1 x) → E 0 = A 0 ∧ E 6 = A 6 ∧ E 14 = A 14 ∧ E 15 = A 15 ∧ E 16 = A 16 := by
    intro E e
    subst e
    unfold ct_m2
    by_cases h : A 4 (6 * x) < 0
    · rw [if_pos (show ct_m1 (ct_pat A x (A 1 x) (A 2 (5 * p + i)) (A 3 (5 * p + i))) x y (A 1 x) (A 1 y) 4 (6 * x) < 0 from h)]
      exact ⟨rfl, rfl, rfl, rfl, rfl⟩
    · rw [if_neg (show ¬ ct_m1 (ct_pat A x (A 1 x) (A 2 (5 * p + i)) (A 3 (5 * p + i))) x y (A 1 x) (A 1 y) 4 (6 * x) < 0 from h)]
      exact ⟨rfl, rfl, rfl, rfl, rfl⟩
  obtain ⟨E0, E6, E14, E15, E16⟩ := hE _ rfl
  unfold ct_mlt
  exact ⟨E0, E6, E14, E15, E16⟩
theorem ct_mlt_wy {E : Nat → Int → Int} {p i x y n : Int} {f g : Int → Int} (hpx : p ≠ x) : ct_lf (ct_mlt (ct_wy E n f g) p i x y) = ct_lf (ct_wy (ct_mlt E p i x y) n f g) := by
  obtain ⟨a1, a2, a3, a5, ⟨a7, a8, a9, a10, a11, a12, a13⟩, a4⟩ := ct_mlt_arr (A := E) (p := p) (i := i) (x := x) (y := y) hpx
  obtain ⟨b1, b2, b3, b5, ⟨b7, b8, b9, b10, b11, b12, b13⟩, b4⟩ := ct_mlt_arr (A := ct_wy E n f g) (p := p) (i := i) (x := x) (y := y) hpx
  obtain ⟨c0, c6, c14, c15, c16⟩ := ct_mlt_arr2 (A := E) (p := p) (i := i) (x := x) (y := y)
  obtain ⟨d0, d6, d14, d15, d16⟩ := ct_mlt_arr2 (A := ct_wy E n f g) (p := p) (i := i) (x := x) (y := y)
  exact ct_lf_ext (by rw [d0]; rfl) (Eq.trans b1 a1.symm) (Eq.trans b2 a2.symm) (Eq.trans b3 a3.symm) (Eq.trans b4 a4.symm) (Eq.trans b5 a5.symm) (Eq.trans d6 c6.symm) (Eq.trans b7 a7.symm) (Eq.trans b8 a8.symm) (Eq.trans b9 a9.symm) (Eq.trans b10 a10.symm) (Eq.trans b11 a11.symm) (Eq.trans b12 a12.symm) (Eq.trans b13 a13.symm) d14 d15 (Eq.trans d16 c16.symm)
/-- what refill leaves -/
def ct_RfR (A B : Nat → Int → Int) (D : Nat → Nat) (SP CT : List Int) (d : Nat) (fs : List ct_Fr) (p : Int) (W : List ct_KV) (n : Nat) : Prop :=
  ct_Z B D SP CT (d + 1) fs p W ∧ ((ct_nd B p).1.length = n ∨ (ct_nd B p).1.length + 1 = n) ∧ (∀ fr, fr ∈ fs → A 5 fr.1 = 1 → B 5 fr.1 = 1) ∧ B 5 p = 1 ∧ ct_Ot SP A B
theorem ct_refill_R {post : St1 → Prop} {A : Nat → Int → Int} {D : Nat → Nat} {SP CT : List Int} {d : Nat} {fs : List ct_Fr} {x p y n : Int} {W : List ct_KV} {ka kb : List ct_KV} {s : ct_KV} {ca cb : List Int} {f g : Int → Int} (hz : ct_Z A D SP CT d ((p, (ka, ca), (s :: kb, y :: cb)) :: fs) x W) (h1 : (ct_nd A x).1.length = 1) (hW : W.length ≤ 25) (hpf : A 5 p = 1) (hxf : A 5 x = 1)
    (hp : ∀ B, ct_RfR A B D SP CT d fs p W (ka.length + kb.length + 1) → post (ct_lf (ct_wy B n f g))) :
    wX_refill_105 post (ct_i p) (ct_i (ka.length : Int)) 0 (ct_i ((ka.length : Int) + 1)) (ct_i n) (ct_c ((ct_wy A n f g) 1)) (ct_c ((ct_wy A n f g) 2)) (ct_a ((ct_wy A n f g) 3)) (ct_c ((ct_wy A n f g) 4)) (ct_a ((ct_wy A n f g) 5)) (ct_a ((ct_wy A n f g) 6)) (ct_c ((ct_wy A n f g) 7)) (ct_c ((ct_wy A n f g) 8)) (ct_a ((ct_wy A n f g) 9)) (ct_a ((ct_wy A n f g) 10)) (ct_c ((ct_wy A n f g) 11)) (ct_c ((ct_wy A n f g) 12)) (ct_a ((ct_wy A n f g) 13)) (ct_c ((ct_wy A n f g) 14)) (ct_c ((ct_wy A n f g) 15)) (ct_c ((ct_wy A n f g) 16)) := by
  obtain ⟨hY, hnp, hl1, hl2, hl3, hl4, hsib⟩ := ct_Y_up (ct_Z_Y hz)
  simp only [List.length_cons] at hl2 hl3 hl4
  have hpr := hz.2.2.2.1 p (List.mem_append.mpr (Or.inr (by simp [ct_CP])))
  have hyr := hz.2.2.2.1 y (List.mem_append.mpr (Or.inr (by
    simp only [ct_CP, List.mem_cons, List.mem_append, List.mem_flatten, List.mem_map]
    exact Or.inr (Or.inl ⟨_, ⟨y, Or.inr (Or.inl rfl), rfl⟩, ct_pg_self _ _ _⟩))))
  have hch : A 4 (6 * p + ((ka.length : Int) + 1)) = y := by
    have := ct_nd_ch (A := A) (x := p) (ca := ca ++ [x]) (c := y) (cb := cb) (by rw [hnp]; simp)
    simp only [List.length_append, List.length_cons, List.length_nil] at this
    rw [← hl1] at this
    rw [← this]; congr 1
  have e6 : (6 : Int32) * ct_i p + ct_i ((ka.length : Int) + 1) = ct_i (6 * p + ((ka.length : Int) + 1)) := by rw [ct_l6, ct_mul, ct_add]
  unfold wX_refill_105
  rw [e6]
  refine ⟨ct_in (by omega) (by omega) (by decide), ?_⟩
  show wpX_freshCopy _ _ (ct_c (A 4) (ct_i (6 * p + ((ka.length : Int) + 1))).toNatClampNeg)
  rw [ct_rc (by omega) (by omega), hch, ct_bI (by omega) (by omega)]
  refine ct_rf_fc (A := A) (c1 := ca ++ [x]) (c2 := cb) hz (by omega) hW hpf (by simp) (by simp) (fun E0 y' hy0 hy1 hE => ?_)
  have hlc : ((ca ++ [x]).length : Int) = (ka.length : Int) + 1 := by simp [hl1]
  rw [hlc] at hE
  refine ⟨ct_in (by omega) (by omega) (by decide), nm_r (e' := ct_c (ct_up (E0 4) (6 * p + ((ka.length : Int) + 1)) y')) (by rw [ct_tb]; exact ct_wc (by omega) (by omega)) ⟨ct_in hy0 (by omega) (by decide), ?_⟩⟩
  generalize hEE : ct_chd E0 p ((ka.length : Int) + 1) y' = E at hE
  have hst : ct_lf (ct_wy E n f g) = ct_lf (ct_wy (ct_chd E0 p ((ka.length : Int) + 1) y') n f g) := by rw [hEE]
  have hE1 : E 1 = E0 1 := by rw [← hEE]; rfl
  obtain ⟨F1, F2, F3, F4, F5, F6, F7, F8, F9, F10, F11, F12, F13, F14⟩ := hE
  have hep : ct_nd E p = (ka ++ s :: kb, ca ++ x :: y' :: cb) := by rw [F2]; simp
  have hxp : x ≠ p := by
    intro e
    have := (List.nodup_append.mp hz.2.2.1).2.2 x (ct_pg_self _ _ _) p (by simp [ct_CP])
    exact this e
  have hex := F5 x hxp (fun e => F11 e.symm)
  obtain ⟨kx, cx, hnx⟩ : ∃ kx cx, ct_nd E x = (kx, cx) := ⟨_, _, rfl⟩
  obtain ⟨ky, cy, hny⟩ : ∃ ky cy, ct_nd E y' = (ky, cy) := ⟨_, _, rfl⟩
  have hkx : kx.length = 1 := by
    have : (ct_nd E x).1.length = 1 := by rw [hex.1]; exact h1
    rw [hnx] at this; exact this
  have hE1x : E 1 x = (kx.length : Int) := by rw [hex.2.1, hz.2.2.2.2.2.2.1, h1, hkx]
  have hky2 := F10.2.1
  have hky4 := F10.2.2
  rw [hny] at hky2 hky4
  have hE1y : E 1 y' = (ky.length : Int) := by
    have := ct_nd_kc (A := E) (x := y') (by rw [hny]; simp only; simp only at hky2; omega) (by rw [hny]; exact hky4)
    rw [hny] at this; exact this
  simp only at hky2 hky4
  have hA1p : A 1 p = ka.length + kb.length + 1 := by
    have hlen : (ct_nd A p).1.length = ka.length + (kb.length + 1) := by rw [hnp]; simp
    have hlo := ct_lo_1 fs
    have := ct_nd_kc (A := A) (x := p) (by omega) (by omega)
    omega
  have hE1p : E 1 p = ((ka ++ s :: kb).length : Int) := by rw [F6, hA1p]; simp; omega
  have hnoy : ct_no (ct_nd E) d (ky, cy) := by rw [← hny]; exact ct_no_sh.mp F10.1
  obtain ⟨i1, i2, i3, i4, i5, i6⟩ := ct_pl2 F1 hep hl1 hnx hny
  have hnox : ct_no (ct_nd E) d (kx, cx) := by rw [← hnx]; exact ct_no_sh.mp F13
  have hxc : x ∈ (ct_nd E p).2 := by rw [hep]; simp
  have hyc : y' ∈ (ct_nd E p).2 := by rw [hep]; simp
  have rx := ct_Y_b4 F1 hxc (by rw [hnx]; exact hnox)
  have ry := ct_Y_b4 F1 hyc (by rw [hny]; exact hnoy)
  have hsib2 : ∀ c, c ∈ ca ++ cb → ct_wf (ct_nd E) d c := fun c hc => F14 c (by
    simp only [List.mem_append, List.mem_cons] at hc ⊢
    rcases hc with h | h
    · exact Or.inl h
    · exact Or.inr (Or.inr h))
  have hEpf : E 5 p = 1 := F8 p hpf
  have hExf : E 5 x = 1 := F8 x hxf
  have c4x : E 4 (6 * p + ka.length) = x := by
    have := ct_nd_ch (A := E) (x := p) (ca := ca) (c := x) (cb := y' :: cb) (by rw [hep])
    rw [← hl1] at this; exact this
  have c4y : E 4 (6 * p + ka.length + 1) = y' := by
    have := ct_nd_ch (A := E) (x := p) (ca := ca ++ [x]) (c := y') (cb := cb) (by rw [hep]; simp)
    rw [hlc] at this
    rw [← this]; congr 1; omega
  have hfrE : ∀ fr, fr ∈ fs → fr.1 ∉ ct_pg (ct_nd E) (d + 1) p := fun fr hfr hm => i6 _ hm (ct_fr_CP fs (d + 1) fr hfr)
  show (2 < ct_c (E0 1) (ct_i y').toNatClampNeg → _) ∧ (¬ 2 < ct_c (E0 1) (ct_i y').toNatClampNeg → _)
  rw [← hE1, ct_rc hy0 (by omega), hE1y, ct_bI (by omega) (by omega), ct_l2, ct_lt (by omega) (by omega) (by omega) (by omega)]
  refine br_c (fun hgt => br_t rfl ?_) (fun hle => br_t rfl ?_)
  · -- a pair from the right
    cases ky with
    | nil => simp at hky2
    | cons l ky' =>
      obtain ⟨cl, cy', hcy, hn1, hn2, hd0, hd1⟩ := ct_no_spl (k1 := []) (m := l) (k2 := ky') hnoy
      simp only [List.length_cons] at hky2 hky4 hgt
      have hny2 : ct_nd E y' = (l :: ky', cl ++ cy') := by rw [hny, hcy]
      have hcc : (cy' = [] ∧ cl = [] ∧ cx = []) ∨ (cy'.length = ky'.length + 1 ∧ (∃ c, cl = [c] ∧ 0 ≤ c) ∧ cx.length = kx.length + 1 ∧ ∀ c, c ∈ cy' → 0 ≤ c) := by
        rcases Nat.eq_zero_or_pos d with e | e
        · refine Or.inl ⟨(hd0 e).2, (hd0 e).1, ?_⟩
          rw [e] at hnox; exact hnox
        · have hh := hd1 e
          refine Or.inr ⟨hh.2, ?_, ?_, fun c hc => ct_Y_ch F1 hyc e (by rw [hny2]; simp [hc])⟩
          · cases cl with
            | nil => simp at hh
            | cons c cl' =>
              cases cl' with
              | nil => exact ⟨c, rfl, ct_Y_ch F1 hyc e (by rw [hny2]; simp)⟩
              | cons c' cl'' => simp at hh
          · cases d with
            | zero => omega
            | succ d => exact hnox.1
      obtain ⟨t1, t2, t3, t4, t5⟩ := ct_tfr_nd i1 i2 i3 hep hny2 hnx hE1p hE1y hE1x (by omega) hcc
      obtain ⟨a1, a2, a3, a5, ⟨a7, a8, a9, a10, a11, a12, a13⟩, a4⟩ := ct_tfr_arr (A := E) (p := p) (i := (ka.length : Int)) (x := x) (y := y') i1 i2 i3 (by omega) (by omega) (by omega) (by omega)
      have hZ : ct_Z (ct_trk E p ka.length x y') D SP CT (d + 1) fs p W := by
        refine ct_rot_Z F1 hep hl1 (by omega) hnx hny2 hEpf hExf F7 hnox (by rw [← hcy]; exact hnoy) (ct_no_join (m := s) hnox hn1).1 hn2 (by simp) (by simp) hsib2 (by simp [hkx]) (by simp [hkx]) (by omega) (by omega) t1 t3 t2 t4 t5 hE1p a5 a7 a10 a11 ?_
        have nn : ∀ q ks c cs, ct_nd (ct_trk E p ka.length x y') q = (ks, c :: cs) → -128 ≤ ct_trk E p ka.length x y' 4 (6 * q) := by
          intro q ks c cs hq
          have := (ct_nd_c hq).2.1
          omega
        have nl : ∀ q, -128 ≤ E 4 (6 * q) → E 4 (6 * q) < 0 → q = x ∨ q = y' → E 4 (6 * x) < 0 → E 4 (6 * y') < 0 → -128 ≤ ct_trk E p ka.length x y' 4 (6 * q) := by
          intro q h1 h2 _ h3 h4
          rw [a4, if_pos h3, if_pos h4]; exact h1
        refine ⟨?_, ?_, ?_⟩
        · cases ca with
          | nil => exact nn p _ _ _ t1
          | cons c ca' => exact nn p _ _ _ t1
        · rcases hcc with ⟨g1, g2, g3⟩ | ⟨g1, ⟨c, g2, g2'⟩, g3, g4⟩
          · have hlx : E 4 (6 * x) < 0 := ct_nd_lf.mp (by rw [hnx, g3])
            have hly : E 4 (6 * y') < 0 := ct_nd_lf.mp (by rw [hny2, g1, g2]; rfl)
            exact nl x rx.2.2.1 hlx (Or.inl rfl) hlx hly
          · cases cx with
            | nil => simp at g3
            | cons c0 cx' => exact nn x _ _ _ t3
        · rcases hcc with ⟨g1, g2, g3⟩ | ⟨g1, ⟨c, g2, g2'⟩, g3, g4⟩
          · have hlx : E 4 (6 * x) < 0 := ct_nd_lf.mp (by rw [hnx, g3])
            have hly : E 4 (6 * y') < 0 := ct_nd_lf.mp (by rw [hny2, g1, g2]; rfl)
            exact nl y' ry.2.2.1 hly (Or.inr rfl) hlx hly
          · cases cy' with
            | nil => simp at g1
            | cons c0 cy'' => exact nn y' _ _ _ t2
      have hfin := hp (ct_trk E p ka.length x y') ⟨hZ, Or.inl (by rw [t1]; simp; omega), fun fr hfr h5 => by rw [a5]; exact F8 _ h5, by rw [a5]; exact hEpf, ct_Ot_t F9 ⟨⟨a7, a8, a9, a10, a12, a13, fun k hk => by rw [a11]⟩, fun q hq => ?_⟩⟩
      · show wpX_takeFromRight _ (ct_lf (ct_wy (ct_chd E0 p ((ka.length : Int) + 1) y') n f g)) _ _
        rw [← hst]
        refine ct_takeFromRight (A := ct_wy E n f g) (i := (ka.length : Int)) rx.1 rx.2.1 hy0 hy1 hpr.1 hpr.2.1 i1 i2 i3 (by omega) (by omega) (show 0 ≤ E 1 x by omega) (show E 1 x ≤ 4 by omega) (show 1 ≤ E 1 y' by rw [hE1y]; simp; omega) (show E 1 y' ≤ 4 by rw [hE1y]; simp; omega) c4x c4y rx.2.2 ry.2.2 ?_
        rw [ct_trk_wy]
        exact hfin
      · have S := F1.2.2.2.2.2
        have a := t4 q (fun e => ct_Sx_fr S hEpf (e ▸ hq)) (fun e => ct_Sx_fr S hExf (e ▸ hq)) (fun e => ct_Sx_fr S F7 (e ▸ hq))
        exact ⟨a.1, a.2.2⟩
  · -- melted
    have hcc : (cy = [] ∧ cx = []) ∨ (cy.length = ky.length + 1 ∧ cx.length = kx.length + 1) := by
      cases d with
      | zero => exact Or.inl ⟨hnoy, hnox⟩
      | succ d => exact Or.inr ⟨hnoy.1, hnox.1⟩
    have hc1 : ∀ c, c ∈ ca → 0 ≤ c := by
      intro c hc
      have hcp : c ∈ ct_pg (ct_nd E) (d + 1) p := by
        simp only [ct_pg, hep, List.mem_cons, List.mem_flatten, List.mem_map]
        exact Or.inr ⟨_, ⟨c, by simp [hc], rfl⟩, ct_pg_self _ _ _⟩
      exact (F1.2.2.1 c (List.mem_append.mpr (Or.inl hcp))).1
    obtain ⟨t1, t2, t3, t4⟩ := ct_mlt_nd i1 i2 i3 hep hl1 hny hnx hE1p hE1y hE1x (by omega) rx.1 hc1 hcc
    obtain ⟨a1, a2, a3, a5, ⟨a7, a8, a9, a10, a11, a12, a13⟩, a4⟩ := ct_mlt_arr (A := E) (p := p) (i := (ka.length : Int)) (x := x) (y := y') i1
    have hZ : ct_Z (ct_mlt E p ka.length x y') D SP CT (d + 1) fs p W := by
      refine ct_mlt_Z F1 hep hl1 (by omega) hnx hny hEpf hExf F7 hnox hnoy hsib2 (by omega) (by omega) t1 t2 t3 t4 a5 a7 a10 a11 ?_
      have nn : ∀ q ks c cs, ct_nd (ct_mlt E p ka.length x y') q = (ks, c :: cs) → -128 ≤ ct_mlt E p ka.length x y' 4 (6 * q) := by
        intro q ks c cs hq
        have := (ct_nd_c hq).2.1
        omega
      refine ⟨?_, ?_⟩
      · cases ca with
        | nil => exact nn p _ _ _ t1
        | cons c ca' => exact nn p _ _ _ t1
      · rcases hcc with ⟨g1, g2⟩ | ⟨g1, g2⟩
        · have hlx : E 4 (6 * x) < 0 := ct_nd_lf.mp (by rw [hnx, g2])
          rw [a4, if_pos hlx, ct_sL_out (by omega)]; exact rx.2.2.1
        · cases cx with
          | nil => simp at g2
          | cons c0 cx' => exact nn x _ _ _ t2
    have hyE : y' ∈ ct_pg (ct_nd E) (d + 1) p := (i5 y').mp (by simp)
    have hfin := hp (ct_mlt E p ka.length x y') ⟨hZ, Or.inr (by rw [t1]; simp), fun fr hfr h5 => ?_, ?_, ct_Ot_t F9 ⟨⟨a7, a8, a9, a10, a12, a13, fun k hk => by rw [a11]⟩, fun q hq => ?_⟩⟩
    · unfold wX_refill_165
      show wpX_melt _ (ct_lf (ct_wy (ct_chd E0 p ((ka.length : Int) + 1) y') n f g)) _ _
      rw [← hst]
      refine ct_melt (A := ct_wy E n f g) (i := (ka.length : Int)) rx.1 rx.2.1 hy0 hy1 hpr.1 hpr.2.1 i1 i3 (by omega) (show (ka.length : Int) < E 1 p by rw [F6, hA1p]; omega) (show E 1 p ≤ 4 by rw [F6, hA1p]; omega) (show 0 ≤ E 1 x by omega) (show 0 ≤ E 1 y' by omega) (show E 1 x + 1 + E 1 y' ≤ 4 by omega) c4x c4y rx.2.2 ?_
      rw [ct_mlt_wy i1]
      exact hfin
    · have hne : fr.1 ≠ y' := fun e => hfrE fr hfr (e ▸ hyE)
      rw [a5, ct_un hne]; exact F8 _ h5
    · rw [a5, ct_un i2]; exact hEpf
    · have S := F1.2.2.2.2.2
      have a := t3 q (fun e => ct_Sx_fr S hEpf (e ▸ hq)) (fun e => ct_Sx_fr S hExf (e ▸ hq))
      exact ⟨a.1, a.2.2⟩
end
section
/-! ===== 29: refill from the left; refill as a whole ===== -/
theorem ct_refill_L {post : St1 → Prop} {A : Nat → Int → Int} {D : Nat → Nat} {SP CT : List Int} {d : Nat} {fs : List ct_Fr} {x p y n : Int} {W : List ct_KV} {ka kb : List ct_KV} {s : ct_KV} {ca cb : List Int} {f g : Int → Int} (hz : ct_Z A D SP CT d ((p, (ka ++ [s], ca ++ [y]), (kb, cb)) :: fs) x W) (h1 : (ct_nd A x).1.length = 1) (hW : W.length ≤ 25) (hpf : A 5 p = 1) (hxf : A 5 x = 1)
    (hp : ∀ B, ct_RfR A B D SP CT d fs p W (ka.length + kb.length + 1) → post (ct_lf (ct_wy B n f g))) :
    wX_refill_105 post (ct_i p) (ct_i ((ka.length : Int) + 1)) 1 (ct_i (ka.length : Int)) (ct_i n) (ct_c ((ct_wy A n f g) 1)) (ct_c ((ct_wy A n f g) 2)) (ct_a ((ct_wy A n f g) 3)) (ct_c ((ct_wy A n f g) 4)) (ct_a ((ct_wy A n f g) 5)) (ct_a ((ct_wy A n f g) 6)) (ct_c ((ct_wy A n f g) 7)) (ct_c ((ct_wy A n f g) 8)) (ct_a ((ct_wy A n f g) 9)) (ct_a ((ct_wy A n f g) 10)) (ct_c ((ct_wy A n f g) 11)) (ct_c ((ct_wy A n f g) 12)) (ct_a ((ct_wy A n f g) 13)) (ct_c ((ct_wy A n f g) 14)) (ct_c ((ct_wy A n f g) 15)) (ct_c ((ct_wy A n f g) 16)) := by
  obtain ⟨hY, hnp, hl1', hl2, hl3, hl4, hsib⟩ := ct_Y_up (ct_Z_Y hz)
  simp only [List.length_append, List.length_cons, List.length_nil] at hl1' hl3 hl4
  have hl1 : ka.length = ca.length := by omega
  have hpr := hz.2.2.2.1 p (List.mem_append.mpr (Or.inr (by simp [ct_CP])))
  have hyr := hz.2.2.2.1 y (List.mem_append.mpr (Or.inr (by
    simp only [ct_CP, List.mem_cons, List.mem_append, List.mem_flatten, List.mem_map]
    exact Or.inr (Or.inl ⟨_, ⟨y, Or.inl (Or.inr (Or.inl rfl)), rfl⟩, ct_pg_self _ _ _⟩))))
  have hch : A 4 (6 * p + (ka.length : Int)) = y := by
    have := ct_nd_ch (A := A) (x := p) (ca := ca) (c := y) (cb := x :: cb) (by rw [hnp]; simp)
    rw [← hl1] at this
    exact this
  have e6 : (6 : Int32) * ct_i p + ct_i (ka.length : Int) = ct_i (6 * p + (ka.length : Int)) := by rw [ct_l6, ct_mul, ct_add]
  unfold wX_refill_105
  rw [e6]
  refine ⟨ct_in (by omega) (by omega) (by decide), ?_⟩
  show wpX_freshCopy _ _ (ct_c (A 4) (ct_i (6 * p + (ka.length : Int))).toNatClampNeg)
  rw [ct_rc (by omega) (by omega), hch, ct_bI (by omega) (by omega)]
  refine ct_rf_fc (A := A) (c1 := ca) (c2 := x :: cb) hz (by omega) hW hpf (by simp) (by simp) (fun E0 y' hy0 hy1 hE => ?_)
  have hlc : (ca.length : Int) = (ka.length : Int) := by omega
  rw [hlc] at hE
  refine ⟨ct_in (by omega) (by omega) (by decide), nm_r (e' := ct_c (ct_up (E0 4) (6 * p + (ka.length : Int)) y')) (by rw [ct_tb]; exact ct_wc (by omega) (by omega)) ⟨ct_in hy0 (by omega) (by decide), ?_⟩⟩
  generalize hEE : ct_chd E0 p (ka.length : Int) y' = E at hE
  have hst : ct_lf (ct_wy E n f g) = ct_lf (ct_wy (ct_chd E0 p (ka.length : Int) y') n f g) := by rw [hEE]
  have hE1 : E 1 = E0 1 := by rw [← hEE]; rfl
  obtain ⟨F1, F2, F3, F4, F5, F6, F7, F8, F9, F10, F11, F12, F13, F14⟩ := hE
  have hep : ct_nd E p = (ka ++ s :: kb, ca ++ y' :: x :: cb) := by rw [F2]; simp
  have hxp : x ≠ p := by
    intro e
    have := (List.nodup_append.mp hz.2.2.1).2.2 x (ct_pg_self _ _ _) p (by simp [ct_CP])
    exact this e
  have hex := F5 x hxp (fun e => F11 e.symm)
  obtain ⟨kx, cx, hnx⟩ : ∃ kx cx, ct_nd E x = (kx, cx) := ⟨_, _, rfl⟩
  obtain ⟨ky, cy, hny⟩ : ∃ ky cy, ct_nd E y' = (ky, cy) := ⟨_, _, rfl⟩
  have hkx : kx.length = 1 := by
    have : (ct_nd E x).1.length = 1 := by rw [hex.1]; exact h1
    rw [hnx] at this; exact this
  have hE1x : E 1 x = (kx.length : Int) := by rw [hex.2.1, hz.2.2.2.2.2.2.1, h1, hkx]
  have hky2 := F10.2.1
  have hky4 := F10.2.2
  rw [hny] at hky2 hky4
  have hE1y : E 1 y' = (ky.length : Int) := by
    have := ct_nd_kc (A := E) (x := y') (by rw [hny]; simp only; simp only at hky2; omega) (by rw [hny]; exact hky4)
    rw [hny] at this; exact this
  simp only at hky2 hky4
  have hA1p : A 1 p = ka.length + kb.length + 1 := by
    have hlen : (ct_nd A p).1.length = ka.length + 1 + kb.length := by rw [hnp]; simp; omega
    have hlo := ct_lo_1 fs
    have := ct_nd_kc (A := A) (x := p) (by omega) (by omega)
    omega
  have hE1p : E 1 p = ((ka ++ s :: kb).length : Int) := by rw [F6, hA1p]; simp; omega
  have hnoy : ct_no (ct_nd E) d (ky, cy) := by rw [← hny]; exact ct_no_sh.mp F10.1
  obtain ⟨i1, i2, i3, i4, i5, i6⟩ := ct_pl2 F1 hep hl1 hny hnx
  have hnox : ct_no (ct_nd E) d (kx, cx) := by rw [← hnx]; exact ct_no_sh.mp F13
  have hxc : x ∈ (ct_nd E p).2 := by rw [hep]; simp
  have hyc : y' ∈ (ct_nd E p).2 := by rw [hep]; simp
  have rx := ct_Y_b4 F1 hxc (by rw [hnx]; exact hnox)
  have ry := ct_Y_b4 F1 hyc (by rw [hny]; exact hnoy)
  have hsib2 : ∀ c, c ∈ ca ++ cb → ct_wf (ct_nd E) d c := fun c hc => F14 c (by
    simp only [List.mem_append, List.mem_cons] at hc ⊢
    rcases hc with h | h
    · exact Or.inl (Or.inl h)
    · exact Or.inr h)
  have hEpf : E 5 p = 1 := F8 p hpf
  have hExf : E 5 x = 1 := F8 x hxf
  have c4y : E 4 (6 * p + ka.length) = y' := by
    have := ct_nd_ch (A := E) (x := p) (ca := ca) (c := y') (cb := x :: cb) (by rw [hep])
    rw [← hl1] at this; exact this
  have c4x : E 4 (6 * p + ka.length + 1) = x := by
    have := ct_nd_ch (A := E) (x := p) (ca := ca ++ [y']) (c := x) (cb := cb) (by rw [hep]; simp)
    simp only [List.length_append, List.length_cons, List.length_nil] at this
    rw [← hl1] at this
    rw [← this]; congr 1; omega
  have hfrE : ∀ fr, fr ∈ fs → fr.1 ∉ ct_pg (ct_nd E) (d + 1) p := fun fr hfr hm => i6 _ hm (ct_fr_CP fs (d + 1) fr hfr)
  have S := F1.2.2.2.2.2
  show (2 < ct_c (E0 1) (ct_i y').toNatClampNeg → _) ∧ (¬ 2 < ct_c (E0 1) (ct_i y').toNatClampNeg → _)
  rw [← hE1, ct_rc hy0 (by omega), hE1y, ct_bI (by omega) (by omega), ct_l2, ct_lt (by omega) (by omega) (by omega) (by omega)]
  refine br_c (fun hgt => br_f (by decide) ?_) (fun hle => br_f (by decide) ?_)
  · -- a pair from the left
    obtain ⟨ky', l, kyz, hkyl, hkl1, hkl2⟩ := ct_split_at (cs := ky) (n := ky.length - 1) (m := 0) (by omega)
    have hkyz : kyz = [] := List.length_eq_zero_iff.mp hkl2
    subst hkyz
    subst hkyl
    obtain ⟨cy', cl, hcy, hn1, hn2, hd0, hd1⟩ := ct_no_spl (k1 := ky') (m := l) (k2 := []) hnoy
    simp only [List.length_append, List.length_cons, List.length_nil] at hky2 hky4 hgt hkl1
    have hny2 : ct_nd E y' = (ky' ++ [l], cy' ++ cl) := by rw [hny, hcy]
    have hcc : (cy' = [] ∧ cl = [] ∧ cx = []) ∨ (cy'.length = ky'.length + 1 ∧ (∃ c, cl = [c] ∧ 0 ≤ c) ∧ cx.length = kx.length + 1) := by
      rcases Nat.eq_zero_or_pos d with e | e
      · refine Or.inl ⟨(hd0 e).1, (hd0 e).2, ?_⟩
        rw [e] at hnox; exact hnox
      · have hh := hd1 e
        refine Or.inr ⟨hh.1, ?_, ?_⟩
        · cases cl with
          | nil => simp at hh
          | cons c cl' =>
            cases cl' with
            | nil => exact ⟨c, rfl, ct_Y_ch F1 hyc e (by rw [hny2]; simp)⟩
            | cons c' cl'' => simp at hh
        · cases d with
          | zero => omega
          | succ d => exact hnox.1
    obtain ⟨t1, t2, t3, t4, t5⟩ := ct_tfl_nd (fun e => i2 e) i1 (fun e => i3 e.symm) hep hny2 hnx hE1p hE1y hE1x (by omega) hcc
    obtain ⟨a1, a2, a3, a4, a5⟩ := ct_tfl_arr (A := E) (p := p) (i := (ka.length : Int) + 1) (x := x) (y := y')
    obtain ⟨_, _, _, _, a7, a8, a9, a10, a11, a12, a13⟩ := ct_tl4_k (A := E) (x := x) (y := y')
    have hZ : ct_Z (ct_tlk (ct_tl4 E x y') p (ka.length + 1) x y') D SP CT (d + 1) fs p W := by
      refine ct_rot_Z F1 hep hl1 (by omega) hny2 hnx hEpf F7 hExf (by rw [← hcy]; exact hnoy) hnox hn1 (ct_no_join (m := s) hn2 hnox).1 (by simp) (by simp) hsib2 (by omega) (by omega) (by simp [hkx]) (by simp [hkx]) t1 t2 t3 (fun q q1 q2 q3 => t4 q q1 q3 q2) t5 hE1p a5 a7 a10 a11 ?_
      have nn : ∀ q ks c cs, ct_nd (ct_tlk (ct_tl4 E x y') p (ka.length + 1) x y') q = (ks, c :: cs) → -128 ≤ ct_tlk (ct_tl4 E x y') p (ka.length + 1) x y' 4 (6 * q) := by
        intro q ks c cs hq
        have := (ct_nd_c hq).2.1
        omega
      have nl : ∀ q, -128 ≤ E 4 (6 * q) → E 4 (6 * x) < 0 → -128 ≤ ct_tlk (ct_tl4 E x y') p (ka.length + 1) x y' 4 (6 * q) := by
        intro q h1 h3
        rw [a4]
        unfold ct_tl4
        rw [if_pos h3]; exact h1
      refine ⟨?_, ?_, ?_⟩
      · cases ca with
        | nil => exact nn p _ _ _ t1
        | cons c ca' => exact nn p _ _ _ t1
      · rcases hcc with ⟨g1, g2, g3⟩ | ⟨g1, ⟨c, g2, g2'⟩, g3⟩
        · exact nl y' ry.2.2.1 (ct_nd_lf.mp (by rw [hnx, g3]))
        · cases cy' with
          | nil => simp at g1
          | cons c0 cy'' => exact nn y' _ _ _ t2
      · rcases hcc with ⟨g1, g2, g3⟩ | ⟨g1, ⟨c, g2, g2'⟩, g3⟩
        · exact nl x rx.2.2.1 (ct_nd_lf.mp (by rw [hnx, g3]))
        · rw [g2] at t3
          exact nn x _ _ _ t3
    have hfin := hp (ct_tlk (ct_tl4 E x y') p (ka.length + 1) x y') ⟨hZ, Or.inl (by rw [t1]; simp; omega), fun fr hfr h5 => by rw [a5]; exact F8 _ h5, by rw [a5]; exact hEpf, ct_Ot_t F9 ⟨⟨a7, a8, a9, a10, a12, a13, fun k hk => by show ct_tl4 E x y' 11 k = _; rw [a11]⟩, fun q hq => ?_⟩⟩
    · show wpX_takeFromLeft _ (ct_lf (ct_wy (ct_chd E0 p (ka.length : Int) y') n f g)) _ _
      rw [← hst]
      refine ct_takeFromLeft (A := ct_wy E n f g) (i := (ka.length : Int) + 1) rx.1 rx.2.1 hy0 hy1 hpr.1 hpr.2.1 (fun e => i2 e) i1 (fun e => i3 e.symm) (by omega) (by omega) (show 0 ≤ E 1 x by omega) (show E 1 x ≤ 4 by omega) (show 1 ≤ E 1 y' by rw [hE1y]; simp; omega) (show E 1 y' ≤ 5 by rw [hE1y]; simp; omega) (show E 4 (6 * p + ((ka.length : Int) + 1)) = x by rw [← c4x]; congr 1; omega) (show E 4 (6 * p + ((ka.length : Int) + 1) - 1) = y' by rw [← c4y]; congr 1; omega) rx.2.2 ?_
      rw [ct_tlk_wy]
      exact hfin
    · have a := t4 q (fun e => ct_Sx_fr S hEpf (e ▸ hq)) (fun e => ct_Sx_fr S hExf (e ▸ hq)) (fun e => ct_Sx_fr S F7 (e ▸ hq))
      exact ⟨a.1, a.2.2⟩
  · -- melted
    have hcc : (cx = [] ∧ cy = []) ∨ (cx.length = kx.length + 1 ∧ cy.length = ky.length + 1) := by
      cases d with
      | zero => exact Or.inl ⟨hnox, hnoy⟩
      | succ d => exact Or.inr ⟨hnox.1, hnoy.1⟩
    have hc1 : ∀ c, c ∈ ca → 0 ≤ c := by
      intro c hc
      have hcp : c ∈ ct_pg (ct_nd E) (d + 1) p := by
        simp only [ct_pg, hep, List.mem_cons, List.mem_flatten, List.mem_map]
        exact Or.inr ⟨_, ⟨c, by simp [hc], rfl⟩, ct_pg_self _ _ _⟩
      exact (F1.2.2.1 c (List.mem_append.mpr (Or.inl hcp))).1
    obtain ⟨t1, t2, t3, t4⟩ := ct_mlt_nd i1 i2 i3 hep hl1 hnx hny hE1p hE1x hE1y (by omega) ry.1 hc1 hcc
    obtain ⟨a1, a2, a3, a5, ⟨a7, a8, a9, a10, a11, a12, a13⟩, a4⟩ := ct_mlt_arr (A := E) (p := p) (i := (ka.length : Int)) (x := y') (y := x) i1
    have hZ : ct_Z (ct_mlt E p ka.length y' x) D SP CT (d + 1) fs p W := by
      refine ct_mlt_Z F1 hep hl1 (by omega) hny hnx hEpf F7 hExf hnoy hnox hsib2 (by omega) (by omega) t1 t2 t3 t4 a5 a7 a10 a11 ?_
      have nn : ∀ q ks c cs, ct_nd (ct_mlt E p ka.length y' x) q = (ks, c :: cs) → -128 ≤ ct_mlt E p ka.length y' x 4 (6 * q) := by
        intro q ks c cs hq
        have := (ct_nd_c hq).2.1
        omega
      refine ⟨?_, ?_⟩
      · cases ca with
        | nil => exact nn p _ _ _ t1
        | cons c ca' => exact nn p _ _ _ t1
      · rcases hcc with ⟨g1, g2⟩ | ⟨g1, g2⟩
        · have hlx : E 4 (6 * y') < 0 := ct_nd_lf.mp (by rw [hny, g2])
          rw [a4, if_pos hlx, ct_sL_out (by omega)]; exact ry.2.2.1
        · cases cy with
          | nil => simp at g2
          | cons c0 cy' => exact nn y' _ _ _ t2
    have hxE : x ∈ ct_pg (ct_nd E) (d + 1) p := (i5 x).mp (by simp)
    have hfin := hp (ct_mlt E p ka.length y' x) ⟨hZ, Or.inr (by rw [t1]; simp), fun fr hfr h5 => ?_, ?_, ct_Ot_t F9 ⟨⟨a7, a8, a9, a10, a12, a13, fun k hk => by rw [a11]⟩, fun q hq => ?_⟩⟩
    · have em : ct_i ((ka.length : Int) + 1) - 1 = ct_i (ka.length : Int) := by rw [ct_l1, ct_sub]; congr 1; omega
      rw [em]
      unfold wX_refill_165
      show wpX_melt _ (ct_lf (ct_wy (ct_chd E0 p (ka.length : Int) y') n f g)) _ _
      rw [← hst]
      refine ct_melt (A := ct_wy E n f g) (i := (ka.length : Int)) hy0 hy1 rx.1 rx.2.1 hpr.1 hpr.2.1 i1 i3 (by omega) (show (ka.length : Int) < E 1 p by rw [F6, hA1p]; omega) (show E 1 p ≤ 4 by rw [F6, hA1p]; omega) (show 0 ≤ E 1 y' by omega) (show 0 ≤ E 1 x by omega) (show E 1 y' + 1 + E 1 x ≤ 4 by omega) c4y c4x ry.2.2 ?_
      rw [ct_mlt_wy i1]
      exact hfin
    · have hne : fr.1 ≠ x := fun e => hfrE fr hfr (e ▸ hxE)
      rw [a5, ct_un hne]; exact F8 _ h5
    · rw [a5, ct_un i2]; exact hEpf
    · have a := t3 q (fun e => ct_Sx_fr S hEpf (e ▸ hq)) (fun e => ct_Sx_fr S F7 (e ▸ hq))
      exact ⟨a.1, a.2.2⟩
theorem ct_snoc {α : Type} {l : List α} (h : 0 < l.length) : ∃ l' a, l = l' ++ [a] := by
  obtain ⟨l1, e, l2, h1, h2, h3⟩ := ct_split_at (cs := l) (n := l.length - 1) (m := 0) (by omega)
  have : l2 = [] := List.length_eq_zero_iff.mp h3
  subst this
  exact ⟨l1, e, h1⟩
theorem ct_refill {post : St1 → Prop} {A : Nat → Int → Int} {D : Nat → Nat} {SP CT : List Int} {d : Nat} {fs : List ct_Fr} {x p n : Int} {W : List ct_KV} {ka kb : List ct_KV} {ca cb : List Int} {f g : Int → Int} (hz : ct_Z A D SP CT d ((p, (ka, ca), (kb, cb)) :: fs) x W) (h1 : (ct_nd A x).1.length = 1) (hW : W.length ≤ 25) (hpf : A 5 p = 1) (hxf : A 5 x = 1) (hw : ct_Wy f g ((p, (ka, ca), (kb, cb)) :: fs)) (h7 : fs.length ≤ 6)
    (hp : ∀ B, ct_RfR A B D SP CT d fs p W (ka.length + kb.length) → post (ct_lf (ct_wy B n f g))) : wpX_refill post (ct_lf (ct_wy A n f g)) (ct_i ((fs.length : Int) + 1)) := by
  have hY := ct_Y_up (ct_Z_Y hz)
  obtain ⟨hY, hnp, hl1, hl2, hl3, hl4, hsib⟩ := hY
  have hpr := hz.2.2.2.1 p (List.mem_append.mpr (Or.inr (by simp [ct_CP])))
  have hlo := ct_lo_1 fs
  have hA1p : A 1 p = ka.length + kb.length := by
    have hlen : (ct_nd A p).1.length = ka.length + kb.length := by rw [hnp]; simp
    have := ct_nd_kc (A := A) (x := p) (by omega) (by omega)
    omega
  have hcr : ∀ c, c ∈ ca ++ cb → 0 ≤ c ∧ c < 100 ∧ 2 ≤ A 1 c ∧ A 1 c ≤ 4 := by
    intro c hc
    have r := hz.2.2.2.1 c (List.mem_append.mpr (Or.inr (by
      simp only [ct_CP, List.mem_cons, List.mem_append, List.mem_flatten, List.mem_map]
      exact Or.inr (Or.inl ⟨_, ⟨c, List.mem_append.mp hc, rfl⟩, ct_pg_self _ _ _⟩))))
    have w := hsib c hc
    have k := ct_nd_kc (A := A) (x := c) (by have := w.2.1; omega) w.2.2
    have w1 := w.2.1
    have w2 := w.2.2
    exact ⟨r.1, r.2.1, by omega, by omega⟩
  -- right
  have right : kb ≠ [] → ∀ post' : St1 → Prop, post' = post → wX_refill_91 post' (ct_i p) (ct_i (ka.length : Int)) 0 (ct_i n) (ct_c ((ct_wy A n f g) 1)) (ct_c ((ct_wy A n f g) 2)) (ct_a ((ct_wy A n f g) 3)) (ct_c ((ct_wy A n f g) 4)) (ct_a ((ct_wy A n f g) 5)) (ct_a ((ct_wy A n f g) 6)) (ct_c ((ct_wy A n f g) 7)) (ct_c ((ct_wy A n f g) 8)) (ct_a ((ct_wy A n f g) 9)) (ct_a ((ct_wy A n f g) 10)) (ct_c ((ct_wy A n f g) 11)) (ct_c ((ct_wy A n f g) 12)) (ct_a ((ct_wy A n f g) 13)) (ct_c ((ct_wy A n f g) 14)) (ct_c ((ct_wy A n f g) 15)) (ct_c ((ct_wy A n f g) 16)) := by
    intro hne post' e
    subst e
    cases kb with
    | nil => exact absurd rfl hne
    | cons s kb =>
      cases cb with
      | nil => simp at hl2
      | cons y cb =>
        unfold wX_refill_91
        refine br_t rfl ?_
        rw [show ct_i (ka.length : Int) + 1 = ct_i ((ka.length : Int) + 1) from ct_add _ 1]
        exact ct_refill_R hz h1 hW hpf hxf (fun B hB => hp B hB)
  have left : ka ≠ [] → ∀ post' : St1 → Prop, post' = post → wX_refill_91 post' (ct_i p) (ct_i (ka.length : Int)) 1 (ct_i n) (ct_c ((ct_wy A n f g) 1)) (ct_c ((ct_wy A n f g) 2)) (ct_a ((ct_wy A n f g) 3)) (ct_c ((ct_wy A n f g) 4)) (ct_a ((ct_wy A n f g) 5)) (ct_a ((ct_wy A n f g) 6)) (ct_c ((ct_wy A n f g) 7)) (ct_c ((ct_wy A n f g) 8)) (ct_a ((ct_wy A n f g) 9)) (ct_a ((ct_wy A n f g) 10)) (ct_c ((ct_wy A n f g) 11)) (ct_c ((ct_wy A n f g) 12)) (ct_a ((ct_wy A n f g) 13)) (ct_c ((ct_wy A n f g) 14)) (ct_c ((ct_wy A n f g) 15)) (ct_c ((ct_wy A n f g) 16)) := by
    intro hne post' e
    subst e
    obtain ⟨ka', s, hka⟩ := ct_snoc (l := ka) (by cases ka with | nil => exact absurd rfl hne | cons a b => simp)
    obtain ⟨ca', y, hca⟩ := ct_snoc (l := ca) (by rw [← hl1, hka]; simp)
    subst hka hca
    unfold wX_refill_91
    refine br_f (by decide) ?_
    have el : ((ka' ++ [s]).length : Int) = (ka'.length : Int) + 1 := by simp
    rw [el, show ct_i ((ka'.length : Int) + 1) - 1 = ct_i (ka'.length : Int) from by rw [ct_l1, ct_sub]; congr 1; omega]
    refine ct_refill_L hz h1 hW hpf hxf (fun B hB => hp B ?_)
    rw [show (ka' ++ [s]).length + kb.length = ka'.length + kb.length + 1 by simp; omega]
    exact hB
  have em : ct_i ((fs.length : Int) + 1) - 1 = ct_i (fs.length : Int) := by rw [ct_l1, ct_sub]; congr 1; omega
  unfold wpX_refill
  show vp_in (ct_i ((fs.length : Int) + 1) - 1) 8 ∧ ∀ x2 : Int32, x2 = ct_c f (ct_i ((fs.length : Int) + 1) - 1).toNatClampNeg → vp_in (ct_i ((fs.length : Int) + 1) - 1) 8 ∧ ∀ x3 : Int32, x3 = ct_c g (ct_i ((fs.length : Int) + 1) - 1).toNatClampNeg → (x3 ≤ 0 → wX_refill_27 post x2 x3 0 (ct_i n) (ct_c ((ct_wy A n f g) 1)) (ct_c ((ct_wy A n f g) 2)) (ct_a ((ct_wy A n f g) 3)) (ct_c ((ct_wy A n f g) 4)) (ct_a ((ct_wy A n f g) 5)) (ct_a ((ct_wy A n f g) 6)) (ct_c ((ct_wy A n f g) 7)) (ct_c ((ct_wy A n f g) 8)) (ct_a ((ct_wy A n f g) 9)) (ct_a ((ct_wy A n f g) 10)) (ct_c ((ct_wy A n f g) 11)) (ct_c ((ct_wy A n f g) 12)) (ct_a ((ct_wy A n f g) 13)) (ct_c ((ct_wy A n f g) 14)) (ct_c ((ct_wy A n f g) 15)) (ct_c ((ct_wy A n f g) 16))) ∧ (¬ x3 ≤ 0 → wX_refill_27 post x2 x3 1 (ct_i n) (ct_c ((ct_wy A n f g) 1)) (ct_c ((ct_wy A n f g) 2)) (ct_a ((ct_wy A n f g) 3)) (ct_c ((ct_wy A n f g) 4)) (ct_a ((ct_wy A n f g) 5)) (ct_a ((ct_wy A n f g) 6)) (ct_c ((ct_wy A n f g) 7)) (ct_c ((ct_wy A n f g) 8)) (ct_a ((ct_wy A n f g) 9)) (ct_a ((ct_wy A n f g) 10)) (ct_c ((ct_wy A n f g) 11)) (ct_c ((ct_wy A n f g) 12)) (ct_a ((ct_wy A n f g) 13)) (ct_c ((ct_wy A n f g) 14)) (ct_c ((ct_wy A n f g) 15)) (ct_c ((ct_wy A n f g) 16)))
  rw [em]
  refine ⟨ct_in (by omega) (by omega) (by decide), nm_r (e' := ct_i p) (by rw [ct_rc (by omega) (by omega), hw.1, ct_bI (by omega) (by omega)]) ⟨ct_in (by omega) (by omega) (by decide), nm_r (e' := ct_i (ka.length : Int)) (by rw [ct_rc (by omega) (by omega), hw.2.1, ct_bI (by simp only; omega) (by simp only; omega)]) ?_⟩⟩
  rw [ct_l0, ct_le (by omega) (by omega) (by omega) (by omega)]
  refine br_c (fun h0 => ?_) (fun h0 => ?_)
  · unfold wX_refill_27
    refine br_t rfl (right (fun e => ?_) post rfl)
    rw [e] at hl3
    simp at hl3
    omega
  · have hka : ka ≠ [] := fun e => by rw [e] at h0; simp at h0
    obtain ⟨ka', s, hka'⟩ := ct_snoc (l := ka) (by omega)
    obtain ⟨ca', y, hca'⟩ := ct_snoc (l := ca) (by omega)
    have hyl := hcr y (by rw [hca']; simp)
    have hclen : (ca'.length : Int) = ka.length - 1 := by rw [hl1, hca']; simp
    have hc4 : A 4 (6 * p + ka.length - 1) = y := by
      have := ct_nd_ch (A := A) (x := p) (ca := ca') (c := y) (cb := x :: cb) (by rw [hnp, hca']; simp)
      rw [hclen] at this
      rw [← this]; congr 1; omega
    have e1 : (6 : Int32) * ct_i p + ct_i (ka.length : Int) - 1 = ct_i (6 * p + ka.length - 1) := by rw [ct_l6, ct_l1, ct_mul, ct_add, ct_sub]
    have e2 : (6 : Int32) * ct_i p + ct_i (ka.length : Int) + 1 = ct_i (6 * p + ka.length + 1) := by rw [ct_l6, ct_l1, ct_mul, ct_add, ct_add]
    unfold wX_refill_27
    refine br_f (by decide) ?_
    rw [e1, e2]
    refine ⟨ct_in (by omega) (by omega) (by decide), ?_⟩
    show vp_in (ct_c (A 4) (ct_i (6 * p + ka.length - 1)).toNatClampNeg) 100 ∧ (2 < ct_c (A 1) (ct_c (A 4) (ct_i (6 * p + ka.length - 1)).toNatClampNeg).toNatClampNeg → _) ∧ (¬ 2 < ct_c (A 1) (ct_c (A 4) (ct_i (6 * p + ka.length - 1)).toNatClampNeg).toNatClampNeg → _)
    rw [ct_rc (by omega) (by omega), hc4, ct_bI (by omega) (by omega), ct_rc hyl.1 (by omega), ct_bI (by omega) (by omega)]
    refine ⟨ct_in hyl.1 (by omega) (by decide), br_c (fun _ => left hka post rfl) (fun _ => ⟨ct_in hpr.1 (by omega) (by decide), ?_⟩)⟩
    show (ct_c (A 1) (ct_i p).toNatClampNeg ≤ ct_i (ka.length : Int) → _) ∧ (¬ ct_c (A 1) (ct_i p).toNatClampNeg ≤ ct_i (ka.length : Int) → _)
    rw [ct_rc hpr.1 (by omega), ct_bI (by omega) (by omega), ct_le (by omega) (by omega) (by omega) (by omega)]
    refine br_c (fun _ => left hka post rfl) (fun hlt => ?_)
    cases kb with
    | nil => simp at hA1p; omega
    | cons s' kb =>
      cases cb with
      | nil => simp at hl2
      | cons z cb =>
        have hzl := hcr z (by simp)
        have hc4z : A 4 (6 * p + ka.length + 1) = z := by
          have := ct_nd_ch (A := A) (x := p) (ca := ca ++ [x]) (c := z) (cb := cb) (by rw [hnp]; simp)
          simp only [List.length_append, List.length_cons, List.length_nil] at this
          rw [← this, ← hl1]; congr 1; omega
        simp only [List.length_cons] at hl4
        refine ⟨ct_in (by omega) (by omega) (by decide), ?_⟩
        show vp_in (ct_c (A 4) (ct_i (6 * p + ka.length + 1)).toNatClampNeg) 100 ∧ (ct_c (A 1) (ct_c (A 4) (ct_i (6 * p + ka.length + 1)).toNatClampNeg).toNatClampNeg ≤ 2 → _) ∧ (¬ ct_c (A 1) (ct_c (A 4) (ct_i (6 * p + ka.length + 1)).toNatClampNeg).toNatClampNeg ≤ 2 → _)
        rw [ct_rc (by omega) (by omega), hc4z, ct_bI (by omega) (by omega)]
        exact ⟨ct_in hzl.1 (by omega) (by decide), br_c (fun _ => left hka post rfl) (fun _ => right (by simp) post rfl)⟩
end
section
/-! ===== 30: takeOut: the way back up ===== -/
theorem ct_to165_n {post : St1 → Prop} {A : Nat → Int → Int} (hr0 : 0 ≤ A 11 3) (hr1 : A 11 3 < 100) (h1 : 1 ≤ A 1 (A 11 3)) (h5 : A 1 (A 11 3) ≤ 5) (hp : post (ct_lf A)) : wX_takeOut_165 post (ct_i (A 0 0)) (ct_c (A 1)) (ct_c (A 2)) (ct_a (A 3)) (ct_c (A 4)) (ct_a (A 5)) (ct_a (A 6)) (ct_c (A 7)) (ct_c (A 8)) (ct_a (A 9)) (ct_a (A 10)) (ct_c (A 11)) (ct_c (A 12)) (ct_a (A 13)) (ct_c (A 14)) (ct_c (A 15)) (ct_c (A 16)) := by
  unfold wX_takeOut_165
  refine nm_r (e' := ct_i (A 11 3)) (by rw [ct_rc3, ct_bI (by omega) (by omega)]) ⟨ct_in hr0 (by omega) (by decide), ?_⟩
  rw [ct_rc hr0 (by omega), ct_bI (by omega) (by omega)]
  refine br_f ?_ hp
  rw [ct_l0, ct_le (by omega) (by omega) (by omega) (by omega)]; omega
theorem ct_to165_0 {post : St1 → Prop} {A : Nat → Int → Int} (hr0 : 0 ≤ A 11 3) (hr1 : A 11 3 < 100) (h1 : A 1 (A 11 3) = 0) (hb : -128 ≤ A 4 (6 * A 11 3) ∧ A 4 (6 * A 11 3) < 128) (hp : post (ct_lf (ct_st (ct_st A 11 (ct_up (A 11) 3 (if A 4 (6 * A 11 3) < 0 then -1 else A 4 (6 * A 11 3)))) 5 (ct_up (A 5) (A 11 3) 0)))) : wX_takeOut_165 post (ct_i (A 0 0)) (ct_c (A 1)) (ct_c (A 2)) (ct_a (A 3)) (ct_c (A 4)) (ct_a (A 5)) (ct_a (A 6)) (ct_c (A 7)) (ct_c (A 8)) (ct_a (A 9)) (ct_a (A 10)) (ct_c (A 11)) (ct_c (A 12)) (ct_a (A 13)) (ct_c (A 14)) (ct_c (A 15)) (ct_c (A 16)) := by
  have e6 : (6 : Int32) * ct_i (A 11 3) = ct_i (6 * A 11 3) := by rw [ct_l6, ct_mul]
  unfold wX_takeOut_165
  refine nm_r (e' := ct_i (A 11 3)) (by rw [ct_rc3, ct_bI (by omega) (by omega)]) ⟨ct_in hr0 (by omega) (by decide), ?_⟩
  rw [ct_rc hr0 (by omega), h1]
  refine br_t (by decide) ?_
  refine ct_isLeaf (A := A) hr0 hr1 hb ?_
  by_cases h : A 4 (6 * A 11 3) < 0
  · rw [if_pos h] at hp ⊢
    refine br_f (by decide) (nm_r (e' := ct_c (ct_up (A 11) 3 (-1))) (ct_wc3i (v := -1) (by decide) (by decide)) ⟨ct_in hr0 (by omega) (by decide), nm_r (e' := ct_a (ct_up (A 5) (A 11 3) 0)) (ct_wr (v := 0) hr0 (by omega)) hp⟩)
  · rw [if_neg h] at hp ⊢
    refine br_t rfl ?_
    rw [e6]
    refine ⟨ct_in (by omega) (by omega) (by decide), nm_r (e' := ct_c (ct_up (A 11) 3 (A 4 (6 * A 11 3)))) (by rw [ct_rc (by omega) (by omega), ct_nb, ct_wc3]) ⟨ct_in hr0 (by omega) (by decide), nm_r (e' := ct_a (ct_up (A 5) (A 11 3) 0)) (ct_wr (v := 0) hr0 (by omega)) hp⟩⟩
/-- an empty root is given up -/
theorem ct_to_e {A0 A : Nat → Int → Int} {D : Nat → Nat} {SP CT : List Int} {d : Nat} {x : Int} {W : List ct_KV} (hz : ct_Z A D SP CT d [] x W) (h0 : (ct_nd A x).1.length = 0) (hxf : A 5 x = 1) (hO : ct_Ot SP A0 A) : ct_Res A0 D SP CT W (ct_st (ct_st A 11 (ct_up (A 11) 3 (if A 4 (6 * A 11 3) < 0 then -1 else A 4 (6 * A 11 3)))) 5 (ct_up (A 5) (A 11 3) 0)) := by
  obtain ⟨z1, z2, z3, z4, z5, z6, z7, z8⟩ := hz
  simp only [ct_Cx] at z1
  subst z1
  simp only [ct_CP, List.append_nil] at z3 z4 z5
  have hxr := z4 _ (ct_pg_self _ _ _)
  have hB : ∀ v q, ct_nd (ct_st (ct_st A 11 (ct_up (A 11) 3 v)) 5 (ct_up (A 5) (A 11 3) 0)) q = ct_nd A q := fun _ _ => rfl
  have hSx : ∀ v, ct_Sx (ct_st (ct_st A 11 (ct_up (A 11) 3 v)) 5 (ct_up (A 5) (A 11 3) 0)) D SP CT := by
    intro v
    refine ct_Sx_ag (A := A) (M := []) ⟨⟨rfl, rfl, fun k hk => ct_un hk⟩, fun q _ => ⟨rfl, rfl, rfl⟩⟩ (by simp) (fun q hq => ?_) (fun q => ?_) z8
    · have qx : q ≠ A 11 3 := fun e => ct_Sx_fr z8 hxf (e ▸ hq)
      exact ct_un qx
    · show 0 ≤ ct_up (A 5) (A 11 3) 0 q ∧ ct_up (A 5) (A 11 3) 0 q ≤ 1
      by_cases e : q = A 11 3
      · rw [e, ct_us]; omega
      · rw [ct_un e]; exact z8.2.2.2 q
  have hOt : ∀ v, ct_Ot SP A0 (ct_st (ct_st A 11 (ct_up (A 11) 3 v)) 5 (ct_up (A 5) (A 11 3) 0)) := fun v => ct_Ot_t hO ⟨⟨rfl, rfl, rfl, rfl, rfl, rfl, fun k hk => ct_un hk⟩, fun q _ => ⟨rfl, rfl⟩⟩
  cases d with
  | zero =>
    have hl : A 4 (6 * A 11 3) < 0 := ct_nd_lf.mp z2
    rw [if_pos hl]
    have e3 : ct_st (ct_st A 11 (ct_up (A 11) 3 (-1))) 5 (ct_up (A 5) (A 11 3) 0) 11 3 = -1 := (show ct_up (A 11) 3 (-1) 3 = -1 from ct_us)
    refine ⟨hSx _, hOt _, 0, Or.inl ⟨e3, ?_⟩, fun q hq => by rw [e3] at hq; omega, fun q g0 g1 g2 => ?_⟩
    · rw [← z6]
      have : (ct_nd A (A 11 3)).1 = [] := List.length_eq_zero_iff.mp h0
      simp [ct_CL, ct_CR, ct_fl, this]
    · have g2' : ct_up (A 5) (A 11 3) 0 q ≠ 0 := g2
      by_cases e : q = A 11 3
      · rw [e, ct_us] at g2'; exact absurd rfl g2'
      · rw [ct_un e] at g2'
        have := z5 q g0 g1 g2'
        simp [ct_pg] at this
        exact absurd this e
  | succ d =>
    have hs := z2
    simp only [ct_sh] at hs
    have hn4 : ¬ A 4 (6 * A 11 3) < 0 := by
      intro e
      have := ct_nd_lf.mpr e
      rw [this] at hs
      simp at hs
    rw [if_neg hn4]
    obtain ⟨c, hc⟩ : ∃ c, (ct_nd A (A 11 3)).2 = [c] := by
      have hl := hs.1
      rw [h0] at hl
      match hm : (ct_nd A (A 11 3)).2 with
      | [] => rw [hm] at hl; simp at hl
      | [c] => exact ⟨c, rfl⟩
      | _ :: _ :: _ => rw [hm] at hl; simp at hl
    have hc4 : A 4 (6 * A 11 3) = c := by
      have := ct_nd_ch (A := A) (x := A 11 3) (ca := []) (c := c) (cb := []) (by rw [hc]; rfl)
      simpa using this
    rw [hc4]
    have hw := hs.2 c (by rw [hc]; simp)
    have hk0 : (ct_nd A (A 11 3)).1 = [] := List.length_eq_zero_iff.mp h0
    have hpg : ct_pg (ct_nd A) (d + 1) (A 11 3) = A 11 3 :: ct_pg (ct_nd A) d c := by simp [ct_pg, hc]
    have hfl : ct_fl (ct_nd A) (d + 1) (A 11 3) = ct_fl (ct_nd A) d c := by simp [ct_fl, hc, hk0, ct_wv, ct_zr]
    rw [hpg] at z3 z4 z5
    rw [List.nodup_cons] at z3
    have e3 : ct_st (ct_st A 11 (ct_up (A 11) 3 c)) 5 (ct_up (A 5) (A 11 3) 0) 11 3 = c := (show ct_up (A 11) 3 c 3 = c from ct_us)
    have hZ : ct_Z (ct_st (ct_st A 11 (ct_up (A 11) 3 c)) 5 (ct_up (A 5) (A 11 3) 0)) D SP CT d [] c W := by
      refine ⟨by simp only [ct_Cx]; exact e3.symm, hw.1, by simp only [ct_CP, List.append_nil]; exact z3.2, fun q hq => ?_, fun q g0 g1 g2 => ?_, ?_, ct_nd_kc (show 1 ≤ (ct_nd A c).1.length by have := hw.2.1; omega) hw.2.2, hSx c⟩
      · simp only [ct_CP, List.append_nil] at hq
        have a := z4 q (List.mem_cons_of_mem _ hq)
        refine ⟨a.1, a.2.1, a.2.2.1, ?_⟩
        have qx : q ≠ A 11 3 := fun e => z3.1 (e ▸ hq)
        rw [show ct_st (ct_st A 11 (ct_up (A 11) 3 c)) 5 (ct_up (A 5) (A 11 3) 0) 5 q = A 5 q from ct_un qx]
        exact a.2.2.2
      · simp only [ct_CP, List.append_nil]
        have g2' : ct_up (A 5) (A 11 3) 0 q ≠ 0 := g2
        by_cases e : q = A 11 3
        · rw [e, ct_us] at g2'; exact absurd rfl g2'
        · rw [ct_un e] at g2'
          rcases List.mem_cons.mp (z5 q g0 g1 g2') with h | h
          · exact absurd h e
          · exact h
      · rw [← z6]
        simp only [ct_CL, ct_CR, List.nil_append, List.append_nil]
        exact hfl.symm
    exact ct_Res_Z hZ (by simp only [ct_lo]; have := hw.2.1; have h2 : 2 ≤ (ct_nd A c).1.length := this; show 1 ≤ (ct_nd A c).1.length; omega) hw.2.2 (hOt c)
theorem ct_takeOut_132 {post : St1 → Prop} {A0 : Nat → Int → Int} {D : Nat → Nat} {SP CT : List Int} {W : List ct_KV} {n : Int} {f g : Int → Int} (hW : W.length ≤ 25) (hp : ∀ B, ct_Res A0 D SP CT W B → post (ct_lf (ct_wy B n f g))) :
    ∀ (fs : List ct_Fr) (d : Nat) (x : Int) (A : Nat → Int → Int), ct_Z A D SP CT d fs x W → ct_lo fs ≤ (ct_nd A x).1.length + 1 → (ct_nd A x).1.length ≤ 4 → (∀ fr, fr ∈ fs → A 5 fr.1 = 1) → A 5 x = 1 → ct_Wy f g fs → f (fs.length : Int) = x → fs.length ≤ 7 → ct_Ot SP A0 A →
    wX_takeOut_132 post (fs.length + 1) (ct_i (fs.length : Int)) (ct_i n) (ct_c ((ct_wy A n f g) 1)) (ct_c ((ct_wy A n f g) 2)) (ct_a ((ct_wy A n f g) 3)) (ct_c ((ct_wy A n f g) 4)) (ct_a ((ct_wy A n f g) 5)) (ct_a ((ct_wy A n f g) 6)) (ct_c ((ct_wy A n f g) 7)) (ct_c ((ct_wy A n f g) 8)) (ct_a ((ct_wy A n f g) 9)) (ct_a ((ct_wy A n f g) 10)) (ct_c ((ct_wy A n f g) 11)) (ct_c ((ct_wy A n f g) 12)) (ct_a ((ct_wy A n f g) 13)) (ct_c ((ct_wy A n f g) 14)) (ct_c ((ct_wy A n f g) 15)) (ct_c ((ct_wy A n f g) 16)) := by
  intro fs
  induction fs with
  | nil =>
    intro d x A hz hl1 hl2 hfr hxf hw hfx h7 hO
    have hr : A 11 3 = x := by
      have := hz.1
      simp only [ct_Cx] at this
      exact this.symm
    have hxr := hz.2.2.2.1 x (List.mem_append.mpr (Or.inl (ct_pg_self _ _ _)))
    have hkc := hz.2.2.2.2.2.2.1
    unfold wX_takeOut_132
    refine br_t (by decide) ?_
    by_cases h0 : (ct_nd A x).1.length = 0
    · have hb4 : A 4 (6 * A 11 3) < 128 := by
        cases hc : (ct_nd A x).2 with
        | nil => have := ct_nd_lf.mp hc; rw [hr]; omega
        | cons c cs =>
          have e := ct_nd_ch (A := A) (x := x) (ca := []) (by simpa using hc)
          have hno := ct_no_sh.mp hz.2.1
          cases d with
          | zero => simp only [ct_no] at hno; rw [hc] at hno; simp at hno
          | succ d =>
            have := hz.2.2.2.1 c (List.mem_append.mpr (Or.inl (by
              simp only [ct_pg, hc, List.mem_cons, List.mem_flatten, List.mem_map]
              exact Or.inr ⟨_, ⟨c, Or.inl rfl, rfl⟩, ct_pg_self _ _ _⟩)))
            rw [hr]
            simp at e
            omega
      refine ct_to165_0 (A := ct_wy A n f g) (show 0 ≤ A 11 3 by omega) (show A 11 3 < 100 by omega) (show A 1 (A 11 3) = 0 by rw [hr, hkc, h0]; rfl) (show -128 ≤ A 4 (6 * A 11 3) ∧ A 4 (6 * A 11 3) < 128 from ⟨by rw [hr]; exact hxr.2.2.1, hb4⟩) ?_
      exact hp _ (ct_to_e hz h0 hxf hO)
    · refine ct_to165_n (A := ct_wy A n f g) (show 0 ≤ A 11 3 by omega) (show A 11 3 < 100 by omega) (show 1 ≤ A 1 (A 11 3) by rw [hr]; omega) (show A 1 (A 11 3) ≤ 5 by rw [hr]; omega) ?_
      exact hp A (ct_Res_Z hz (by simp only [ct_lo]; omega) hl2 hO)
  | cons fr fs ih =>
    obtain ⟨p, ⟨ka, ca⟩, kb, cb⟩ := fr
    intro d x A hz hl1 hl2 hfr hxf hw hfx h7 hO
    have hxr := hz.2.2.2.1 x (List.mem_append.mpr (Or.inl (ct_pg_self _ _ _)))
    have hkc := hz.2.2.2.2.2.2.1
    simp only [List.length_cons] at h7 hfx
    have el : ((((p, (ka, ca), (kb, cb)) : ct_Fr) :: fs).length : Int) = (fs.length : Int) + 1 := by simp
    rw [show ((fs.length + 1 : Nat) : Int) = (fs.length : Int) + 1 by omega] at hfx
    have e14 : ct_c f (ct_i ((fs.length : Int) + 1)).toNatClampNeg = ct_i x := by rw [ct_rc (by omega) (by omega), hfx, ct_bI (by omega) (by omega)]
    simp only [ct_lo] at hl1
    rw [el]
    unfold wX_takeOut_132
    refine br_f (by rw [ct_l0, ct_le (by omega) (by omega) (by omega) (by omega)]; omega) ⟨ct_in (by omega) (by omega) (by decide), ?_⟩
    show vp_in (ct_c f (ct_i ((fs.length : Int) + 1)).toNatClampNeg) 100 ∧ (2 ≤ ct_c (A 1) (ct_c f (ct_i ((fs.length : Int) + 1)).toNatClampNeg).toNatClampNeg → _) ∧ (¬ 2 ≤ ct_c (A 1) (ct_c f (ct_i ((fs.length : Int) + 1)).toNatClampNeg).toNatClampNeg → _)
    rw [e14]
    refine ⟨ct_in hxr.1 (by omega) (by decide), ?_⟩
    rw [ct_rc hxr.1 (by omega), ct_bI (by omega) (by omega), ct_l2, ct_le (by omega) (by omega) (by omega) (by omega)]
    refine br_c (fun h2 => ?_) (fun h2 => ?_)
    · have hres := ct_Res_Z hz (by simp only [ct_lo]; omega) hl2 hO
      obtain ⟨f1, f2, f3, f4⟩ := ct_Z_fin hz (by simp only [ct_lo]; omega) hl2
      have hrr := f1.2.2.2.1 _ (ct_pg_self _ _ _)
      have hrk := ct_nd_kc f1.2.1 f1.2.2.1
      have q1 := f1.2.1
      have q2 := f1.2.2.1
      exact ct_to165_n (A := ct_wy A n f g) hrr.1 hrr.2 (show 1 ≤ A 1 (A 11 3) by omega) (show A 1 (A 11 3) ≤ 5 by omega) (hp A hres)
    · have hcx := hz.1
      simp only [ct_Cx] at hcx
      have hpf := hfr _ (List.mem_cons_self)
      refine ct_refill (A := A) (n := n) hz (by omega) hW hpf hxf hw (by omega) (fun B hB => ?_)
      obtain ⟨r1, r2, r3, r4, r5⟩ := hB
      refine nm_r (e' := ct_i (fs.length : Int)) (by rw [ct_l1, ct_neg, ct_add]; congr 1; omega) ?_
      exact ih (d + 1) p B r1 (by omega) (by omega) (fun fr hfr' => r3 fr hfr' (hfr fr (List.mem_cons_of_mem _ hfr'))) r4 hw.2.2 hw.1 (by omega) (ct_Ot_t hO r5)
end
section
/-! ===== 31: lengthenWay, takeOut, erase ===== -/
/-- a pair taken out of the leaf in the hole -/
theorem ct_Z_clp {A : Nat → Int → Int} {D : Nat → Nat} {SP CT : List Int} {fs : List ct_Fr} {x : Int} {W ka kb : List ct_KV} {e : ct_KV} (hz : ct_Z A D SP CT 0 fs x W) (hnd : (ct_nd A x).1 = ka ++ e :: kb) (hxf : A 5 x = 1) :
    ct_Z (ct_clp A x ka.length) D SP CT 0 fs x (ct_CL (ct_nd A) 0 fs ++ ((ka ++ kb) ++ ct_CR (ct_nd A) 0 fs)) ∧ (ct_nd (ct_clp A x ka.length) x).1 = ka ++ kb ∧ ct_Ot SP A (ct_clp A x ka.length) := by
  have hY := ct_Z_Y hz
  obtain ⟨z1, z2, z3, z4, z5, z6, z7, z8⟩ := hz
  have hnx : ct_nd A x = (ka ++ e :: kb, []) := by
    have : (ct_nd A x).2 = [] := z2
    rw [← hnd, ← this]
  have hcap := ct_nd_cap (A := A) (x := x)
  obtain ⟨i1, i2⟩ := ct_clp_x hnx z7
  have io : ∀ q, q ≠ x → ct_nd (ct_clp A x ka.length) q = ct_nd A q ∧ ct_clp A x ka.length 1 q = A 1 q := fun q hq => ct_clp_o hq (by omega) (by omega)
  have hxW := z4 x (List.mem_append.mpr (Or.inl (ct_pg_self _ _ _)))
  have hn := List.nodup_append.mp z3
  refine ⟨ct_Y_Z (ct_Y_mod (N := []) (R := []) (M := [x]) hY ⟨⟨rfl, rfl, fun _ _ => rfl⟩, fun q hq => ?_⟩ (fun q hq => ?_) ?_ (by simp) (by simp) (by simp) (fun q _ _ => rfl) rfl ?_) ?_ ?_, by rw [i1], ⟨⟨rfl, rfl, rfl, rfl, rfl, rfl, fun _ _ => rfl⟩, fun q hq => ?_⟩⟩
  · simp only [List.mem_cons, List.not_mem_nil, or_false] at hq
    exact ⟨(io q hq).1, (io q hq).2, rfl⟩
  · simp only [List.mem_cons, List.not_mem_nil, or_false] at hq
    subst hq
    exact ⟨fun hm => hn.2.2 q (ct_pg_self _ _ _) q hm rfl, ct_Sx_fr z8 hxf, hxW.2.2.1⟩
  · simp [ct_pg]
  · have : ct_fl (ct_nd (ct_clp A x ka.length)) 0 x = ka ++ kb := by simp only [ct_fl]; rw [i1]
    rw [this]
  · show (ct_nd (ct_clp A x ka.length) x).2 = []
    rw [i1]
  · rw [i1]; exact i2
  · exact ⟨(io q (fun e => ct_Sx_fr z8 hxf (e ▸ hq))).1, rfl⟩
/-- one pair of a frame written over, the frames below it without pairs on their right -/
theorem ct_Cx_frm {H H' : ct_Hp} {p : Int} {ka kb : List ct_KV} {k0 e : ct_KV} {ca cb : List Int} {gs0 : List ct_Fr} (hp : H' p = (ka ++ e :: kb, (H p).2)) : ∀ (gs1 : List ct_Fr) (d : Nat) (x r : Int), (∀ fr, fr ∈ gs1 → fr.2.2.1 = []) → ct_Cx H d (gs1 ++ (p, (ka, ca), (k0 :: kb, cb)) :: gs0) x r → (ct_CP H d (gs1 ++ (p, (ka, ca), (k0 :: kb, cb)) :: gs0)).Nodup → (∀ q, q ∈ ct_CP H d (gs1 ++ (p, (ka, ca), (k0 :: kb, cb)) :: gs0) → q ≠ p → H' q = H q) →
    ct_Cx H' d (gs1 ++ (p, (ka, ca), (e :: kb, cb)) :: gs0) x r ∧ ct_CP H' d (gs1 ++ (p, (ka, ca), (e :: kb, cb)) :: gs0) = ct_CP H d (gs1 ++ (p, (ka, ca), (k0 :: kb, cb)) :: gs0) ∧ ct_CL H' d (gs1 ++ (p, (ka, ca), (e :: kb, cb)) :: gs0) = ct_CL H d (gs1 ++ (p, (ka, ca), (k0 :: kb, cb)) :: gs0) ∧ ∃ R, ct_CR H d (gs1 ++ (p, (ka, ca), (k0 :: kb, cb)) :: gs0) = k0 :: R ∧ ct_CR H' d (gs1 ++ (p, (ka, ca), (e :: kb, cb)) :: gs0) = e :: R := by
  intro gs1
  induction gs1 with
  | nil =>
    intro d x r _ h hn hq
    simp only [List.nil_append] at h hn hq ⊢
    simp only [ct_Cx] at h
    obtain ⟨h1, h2, h3, h4, h5, h6, h7⟩ := h
    simp only [ct_CP, List.nodup_cons] at hn
    have hs : ∀ c', c' ∈ ca ++ cb → ∀ q, q ∈ ct_pg H d c' → H' q = H q := by
      intro c' hc q hq'
      have hm : q ∈ ((ca ++ cb).map (ct_pg H d)).flatten ++ ct_CP H (d + 1) gs0 := by
        simp only [List.mem_append, List.mem_flatten, List.mem_map]
        exact Or.inl ⟨_, ⟨c', List.mem_append.mp hc, rfl⟩, hq'⟩
      refine hq q ?_ (fun e => hn.1 (e ▸ hm))
      simp only [ct_CP, List.mem_cons]
      exact Or.inr hm
    have hu : ∀ q, q ∈ ct_CP H (d + 1) gs0 → H' q = H q := by
      intro q hq'
      have hm : q ∈ ((ca ++ cb).map (ct_pg H d)).flatten ++ ct_CP H (d + 1) gs0 := List.mem_append.mpr (Or.inr hq')
      refine hq q ?_ (fun e => hn.1 (e ▸ hm))
      simp only [ct_CP, List.mem_cons]
      exact Or.inr hm
    obtain ⟨i1, i2, i3, i4⟩ := ct_Cx_cg gs0 (d + 1) p r hu
    have hmb : cb.map (ct_fl H' d) = cb.map (ct_fl H d) := List.map_congr_left (fun c' hc => (ct_cg d c' (hs c' (List.mem_append.mpr (Or.inr hc)))).2.1)
    refine ⟨?_, ?_, ?_, ?_⟩
    · simp only [ct_Cx]
      exact ⟨by rw [hp, h1], h2, h3, h4, h5, fun c' hc => ct_wf_cg (hs c' hc) (h6 c' hc), i1 h7⟩
    · simp only [ct_CP]
      rw [i2, List.map_congr_left (fun c' hc => (ct_cg d c' (hs c' hc)).1)]
    · simp only [ct_CL]
      rw [i3, List.map_congr_left (fun c' hc => (ct_cg d c' (hs c' (List.mem_append.mpr (Or.inl hc)))).2.1)]
    · simp only [ct_CR]
      rw [i4, hmb]
      cases cb with
      | nil => simp at h3
      | cons c0 cb' =>
        simp only [List.map_cons, ct_zr, List.cons_append]
        exact ⟨_, rfl, rfl⟩
  | cons a gs1 ih =>
    obtain ⟨pa, ⟨kaa, caa⟩, kba, cba⟩ := a
    intro d x r hg h hn hq
    simp only [List.cons_append] at h hn hq ⊢
    simp only [ct_Cx] at h
    obtain ⟨h1, h2, h3, h4, h5, h6, h7⟩ := h
    have hkba : kba = [] := hg _ (List.mem_cons_self)
    have hn0 := hn
    simp only [ct_CP, List.nodup_cons] at hn
    have hn2 := List.nodup_append.mp hn.2
    have hpm : p ∈ ct_CP H (d + 1) (gs1 ++ (p, (ka, ca), (k0 :: kb, cb)) :: gs0) := ct_fr_CP _ _ (p, (ka, ca), (k0 :: kb, cb)) (by simp)
    have hpa : pa ≠ p := fun e => hn.1 (by rw [e]; exact List.mem_append.mpr (Or.inr hpm))
    have hs : ∀ c', c' ∈ caa ++ cba → ∀ q, q ∈ ct_pg H d c' → H' q = H q := by
      intro c' hc q hq'
      have hm : q ∈ ((caa ++ cba).map (ct_pg H d)).flatten := by
        simp only [List.mem_flatten, List.mem_map]
        exact ⟨_, ⟨c', hc, rfl⟩, hq'⟩
      refine hq q ?_ (fun e => hn2.2.2 q hm p hpm e)
      simp only [ct_CP, List.mem_cons]
      exact Or.inr (List.mem_append.mpr (Or.inl hm))
    obtain ⟨i1, i2, i3, R, i4, i5⟩ := ih (d + 1) pa r (fun fr hfr => hg fr (List.mem_cons_of_mem _ hfr)) h7 hn2.2.1 (fun q hq' hne => hq q (by simp only [ct_CP, List.mem_cons]; exact Or.inr (List.mem_append.mpr (Or.inr hq'))) hne)
    refine ⟨?_, ?_, ?_, R, ?_, ?_⟩
    · simp only [ct_Cx]
      refine ⟨by rw [hq pa (by simp [ct_CP]) hpa, h1], h2, h3, ?_, h5, fun c' hc => ct_wf_cg (hs c' hc) (h6 c' hc), i1⟩
      have : ct_lo (gs1 ++ (p, (ka, ca), (e :: kb, cb)) :: gs0) = ct_lo (gs1 ++ (p, (ka, ca), (k0 :: kb, cb)) :: gs0) := by cases gs1 <;> rfl
      rw [this]; exact h4
    · simp only [ct_CP]
      rw [i2, List.map_congr_left (fun c' hc => (ct_cg d c' (hs c' hc)).1)]
    · simp only [ct_CL]
      rw [i3, List.map_congr_left (fun c' hc => (ct_cg d c' (hs c' (List.mem_append.mpr (Or.inl hc)))).2.1)]
    · simp only [ct_CR]
      rw [i4, hkba]; rfl
    · simp only [ct_CR]
      rw [i5, hkba]; rfl
theorem ct_Cx_get {H : ct_Hp} {p : Int} {ka kb : List ct_KV} {ca cb : List Int} {gs0 : List ct_Fr} : ∀ (gs1 : List ct_Fr) (d : Nat) (x r : Int), ct_Cx H d (gs1 ++ (p, (ka, ca), (kb, cb)) :: gs0) x r → (H p).1 = ka ++ kb ∧ 1 ≤ ka.length + kb.length ∧ ka.length + kb.length ≤ 4 := by
  intro gs1
  induction gs1 with
  | nil =>
    intro d x r h
    simp only [List.nil_append, ct_Cx] at h
    have := ct_lo_1 gs0
    exact ⟨by rw [h.1], by omega, h.2.2.2.2.1⟩
  | cons a gs1 ih =>
    obtain ⟨pa, ⟨kaa, caa⟩, kba, cba⟩ := a
    intro d x r h
    simp only [List.cons_append, ct_Cx] at h
    exact ih (d + 1) pa r h.2.2.2.2.2.2
theorem ct_Wy_get {f g : Int → Int} : ∀ (gs : List ct_Fr) (j : Nat), j < gs.length → ct_Wy f g gs → ∃ l1 fr l2, gs = l1 ++ fr :: l2 ∧ l2.length = j ∧ f (j : Int) = fr.1 ∧ g (j : Int) = (fr.2.1.1.length : Int) := by
  intro gs
  induction gs with
  | nil => intro j h; simp at h
  | cons fr gs ih =>
    intro j hj h
    by_cases e : j = gs.length
    · subst e
      exact ⟨[], fr, gs, rfl, rfl, h.1, h.2.1⟩
    · obtain ⟨l1, fr', l2, h1, h2, h3, h4⟩ := ih j (by simp at hj; omega) h.2.2
      exact ⟨fr :: l1, fr', l2, by rw [h1]; rfl, h2, h3, h4⟩
/-- the frame's pair written over: Z -/
theorem ct_Z_frm {A : Nat → Int → Int} {D : Nat → Nat} {SP CT : List Int} {d : Nat} {gs1 gs0 : List ct_Fr} {x p : Int} {W ka kb : List ct_KV} {k0 e : ct_KV} {ca cb : List Int} (hz : ct_Z A D SP CT d (gs1 ++ (p, (ka, ca), (k0 :: kb, cb)) :: gs0) x W) (hg : ∀ fr, fr ∈ gs1 → fr.2.2.1 = []) (hpf : A 5 p = 1) :
    ∃ R, W = ct_CL (ct_nd A) d (gs1 ++ (p, (ka, ca), (k0 :: kb, cb)) :: gs0) ++ (ct_fl (ct_nd A) d x ++ k0 :: R) ∧ ct_Z (ct_pat A p ka.length e.1 e.2) D SP CT d (gs1 ++ (p, (ka, ca), (e :: kb, cb)) :: gs0) x (ct_CL (ct_nd A) d (gs1 ++ (p, (ka, ca), (k0 :: kb, cb)) :: gs0) ++ (ct_fl (ct_nd A) d x ++ e :: R)) ∧ ct_CL (ct_nd (ct_pat A p ka.length e.1 e.2)) d (gs1 ++ (p, (ka, ca), (e :: kb, cb)) :: gs0) = ct_CL (ct_nd A) d (gs1 ++ (p, (ka, ca), (k0 :: kb, cb)) :: gs0) ∧ ct_CR (ct_nd (ct_pat A p ka.length e.1 e.2)) d (gs1 ++ (p, (ka, ca), (e :: kb, cb)) :: gs0) = e :: R ∧ ct_nd (ct_pat A p ka.length e.1 e.2) x = ct_nd A x ∧ ct_Ot SP A (ct_pat A p ka.length e.1 e.2) := by
  obtain ⟨z1, z2, z3, z4, z5, z6, z7, z8⟩ := hz
  have hn := List.nodup_append.mp z3
  obtain ⟨q1, q2, q3⟩ := ct_Cx_get gs1 d x _ z1
  have hnp : ct_nd A p = (ka ++ k0 :: kb, (ct_nd A p).2) := by rw [← q1]
  simp only [List.length_cons] at q2 q3
  have hpx := ct_pat_x (k := e.1) (v := e.2) hnp
  have hpo : ∀ q, q ≠ p → ct_nd (ct_pat A p ka.length e.1 e.2) q = ct_nd A q := fun q hq => ct_pat_o hq (by omega) (by omega)
  have hpm : p ∈ ct_CP (ct_nd A) d (gs1 ++ (p, (ka, ca), (k0 :: kb, cb)) :: gs0) := ct_fr_CP _ _ (p, (ka, ca), (k0 :: kb, cb)) (by simp)
  have hpgx : ∀ q, q ∈ ct_pg (ct_nd A) d x → q ≠ p := fun q hq e => hn.2.2 q hq p hpm e
  obtain ⟨c1, c2, c3, R, c4, c5⟩ := ct_Cx_frm (H := ct_nd A) (H' := ct_nd (ct_pat A p ka.length e.1 e.2)) (k0 := k0) (e := e) (ca := ca) (cb := cb) (gs0 := gs0) hpx gs1 d x (A 11 3) hg z1 hn.2.1 (fun q _ hq => hpo q hq)
  obtain ⟨g1, g2, g3⟩ := ct_cg (H := ct_nd A) (H' := ct_nd (ct_pat A p ka.length e.1 e.2)) d x (fun q hq => hpo q (hpgx q hq))
  have hxp : x ≠ p := hpgx x (ct_pg_self _ _ _)
  refine ⟨R, by rw [← z6, c4], ⟨c1, g3 z2, by rw [g1, c2]; exact z3, fun q hq => ?_, fun q h0 h1 h2 => ?_, by rw [c3, g2, c5], ?_, ?_⟩, c3, c5, hpo x hxp, ⟨⟨rfl, rfl, rfl, rfl, rfl, rfl, fun _ _ => rfl⟩, fun q hq => ?_⟩⟩
  · rw [g1, c2] at hq; exact z4 q hq
  · rw [g1, c2]; exact z5 q h0 h1 h2
  · rw [hpo x hxp]; exact z7
  · refine ct_Sx_ag (A := A) (M := [p]) ⟨⟨rfl, rfl, fun _ _ => rfl⟩, fun q hq => ?_⟩ (fun q hq => ?_) (fun q _ => rfl) z8.2.2.2 z8
    · simp only [List.mem_cons, List.not_mem_nil, or_false] at hq
      exact ⟨hpo q hq, rfl, rfl⟩
    · simp only [List.mem_cons, List.not_mem_nil, or_false] at hq
      rw [hq]; exact ct_Sx_fr z8 hpf
  · exact ⟨hpo q (fun e => ct_Sx_fr z8 hpf (e ▸ hq)), rfl⟩
/-- a level of the way that isn't the key's place -/
def ct_nm (A : Nat → Int → Int) (f g : Int → Int) (key j : Int) : Prop := 0 ≤ f j ∧ f j < 100 ∧ 0 ≤ g j ∧ g j ≤ 4 ∧ 0 ≤ A 1 (f j) ∧ A 1 (f j) ≤ 5 ∧ (g j < A 1 (f j) → 0 ≤ A 2 (5 * f j + g j) ∧ A 2 (5 * f j + g j) < 100 ∧ A 2 (5 * f j + g j) ≠ key)
theorem ct_to27_st {post : St1 → Prop} {A : Nat → Int → Int} {f g : Int → Int} {key leaf pl n l : Int} {m : Nat} (hkey : 0 ≤ key ∧ key < 100) (hl0 : 0 ≤ l) (hln : l < n - 1) (hn8 : n ≤ 8) (hm : ct_nm A f g key l) (hp : wX_takeOut_27 post (ct_i key) (ct_i leaf) (ct_i pl) m (ct_i (l + 1)) (ct_i n) (ct_c ((ct_wy A n f g) 1)) (ct_c ((ct_wy A n f g) 2)) (ct_a ((ct_wy A n f g) 3)) (ct_c ((ct_wy A n f g) 4)) (ct_a ((ct_wy A n f g) 5)) (ct_a ((ct_wy A n f g) 6)) (ct_c ((ct_wy A n f g) 7)) (ct_c ((ct_wy A n f g) 8)) (ct_a ((ct_wy A n f g) 9)) (ct_a ((ct_wy A n f g) 10)) (ct_c ((ct_wy A n f g) 11)) (ct_c ((ct_wy A n f g) 12)) (ct_a ((ct_wy A n f g) 13)) (ct_c ((ct_wy A n f g) 14)) (ct_c ((ct_wy A n f g) 15)) (ct_c ((ct_wy A n f g) 16))) : wX_takeOut_27 post (ct_i key) (ct_i leaf) (ct_i pl) (m + 1) (ct_i l) (ct_i n) (ct_c ((ct_wy A n f g) 1)) (ct_c ((ct_wy A n f g) 2)) (ct_a ((ct_wy A n f g) 3)) (ct_c ((ct_wy A n f g) 4)) (ct_a ((ct_wy A n f g) 5)) (ct_a ((ct_wy A n f g) 6)) (ct_c ((ct_wy A n f g) 7)) (ct_c ((ct_wy A n f g) 8)) (ct_a ((ct_wy A n f g) 9)) (ct_a ((ct_wy A n f g) 10)) (ct_c ((ct_wy A n f g) 11)) (ct_c ((ct_wy A n f g) 12)) (ct_a ((ct_wy A n f g) 13)) (ct_c ((ct_wy A n f g) 14)) (ct_c ((ct_wy A n f g) 15)) (ct_c ((ct_wy A n f g) 16)) := by
  obtain ⟨h1, h2, h3, h4, h5, h6, h7⟩ := hm
  have en : ct_i n - 1 = ct_i (n - 1) := by rw [ct_l1, ct_sub]
  have el : ct_i l + 1 = ct_i (l + 1) := ct_add l 1
  have e5 : (5 : Int32) * ct_i (f l) + ct_i (g l) = ct_i (5 * f l + g l) := by rw [ct_l5, ct_mul, ct_add]
  unfold wX_takeOut_27
  rw [en]
  refine br_f (by rw [ct_le (by omega) (by omega) (by omega) (by omega)]; omega) ⟨ct_in hl0 (by omega) (by decide), nm_r (e' := ct_i (f l)) (show ct_c f (ct_i l).toNatClampNeg = _ by rw [ct_rc hl0 (by omega), ct_bI (by omega) (by omega)]) ⟨ct_in hl0 (by omega) (by decide), nm_r (e' := ct_i (g l)) (show ct_c g (ct_i l).toNatClampNeg = _ by rw [ct_rc hl0 (by omega), ct_bI (by omega) (by omega)]) ⟨ct_in h1 (by omega) (by decide), ?_⟩⟩⟩
  show (ct_c (A 1) (ct_i (f l)).toNatClampNeg ≤ ct_i (g l) → _) ∧ (¬ ct_c (A 1) (ct_i (f l)).toNatClampNeg ≤ ct_i (g l) → _)
  rw [ct_rc h1 (by omega), ct_bI (by omega) (by omega), ct_le (by omega) (by omega) (by omega) (by omega)]
  refine br_c (fun _ => nm_r el hp) (fun hlt => ?_)
  have hk := h7 (by omega)
  rw [e5]
  refine ⟨ct_in (by omega) (by omega) (by decide), ?_⟩
  show (ct_c (A 2) (ct_i (5 * f l + g l)).toNatClampNeg = ct_i key → _) ∧ (¬ ct_c (A 2) (ct_i (5 * f l + g l)).toNatClampNeg = ct_i key → _)
  rw [ct_rc (by omega) (by omega), ct_bI (by omega) (by omega), ct_eq (by omega) (by omega) (by omega) (by omega)]
  exact br_f hk.2.2 (nm_r el hp)
theorem ct_to27_sts {post : St1 → Prop} {A : Nat → Int → Int} {f g : Int → Int} {key leaf pl n : Int} {k : Nat} {u : Int} (hkey : 0 ≤ key ∧ key < 100) (hun : u ≤ n - 1) (hn8 : n ≤ 8) (hp : wX_takeOut_27 post (ct_i key) (ct_i leaf) (ct_i pl) k (ct_i u) (ct_i n) (ct_c ((ct_wy A n f g) 1)) (ct_c ((ct_wy A n f g) 2)) (ct_a ((ct_wy A n f g) 3)) (ct_c ((ct_wy A n f g) 4)) (ct_a ((ct_wy A n f g) 5)) (ct_a ((ct_wy A n f g) 6)) (ct_c ((ct_wy A n f g) 7)) (ct_c ((ct_wy A n f g) 8)) (ct_a ((ct_wy A n f g) 9)) (ct_a ((ct_wy A n f g) 10)) (ct_c ((ct_wy A n f g) 11)) (ct_c ((ct_wy A n f g) 12)) (ct_a ((ct_wy A n f g) 13)) (ct_c ((ct_wy A n f g) 14)) (ct_c ((ct_wy A n f g) 15)) (ct_c ((ct_wy A n f g) 16))) : ∀ (m : Nat) (l : Int), 0 ≤ l → l + m = u → (∀ j : Int, l ≤ j → j < u → ct_nm A f g key j) → wX_takeOut_27 post (ct_i key) (ct_i leaf) (ct_i pl) (k + m) (ct_i l) (ct_i n) (ct_c ((ct_wy A n f g) 1)) (ct_c ((ct_wy A n f g) 2)) (ct_a ((ct_wy A n f g) 3)) (ct_c ((ct_wy A n f g) 4)) (ct_a ((ct_wy A n f g) 5)) (ct_a ((ct_wy A n f g) 6)) (ct_c ((ct_wy A n f g) 7)) (ct_c ((ct_wy A n f g) 8)) (ct_a ((ct_wy A n f g) 9)) (ct_a ((ct_wy A n f g) 10)) (ct_c ((ct_wy A n f g) 11)) (ct_c ((ct_wy A n f g) 12)) (ct_a ((ct_wy A n f g) 13)) (ct_c ((ct_wy A n f g) 14)) (ct_c ((ct_wy A n f g) 15)) (ct_c ((ct_wy A n f g) 16)) := by
  intro m
  induction m with
  | zero =>
    intro l _ hl _
    have e : l = u := by omega
    subst e
    exact hp
  | succ m ih =>
    intro l hl0 hl hn
    exact ct_to27_st hkey hl0 (by omega) hn8 (hn l (by omega) (by omega)) (ih (l + 1) (by omega) (by omega) (fun j h1 h2 => hn j (by omega) h2))
/-- the key's place: the leaf's pair is put there -/
theorem ct_to27_m {post : St1 → Prop} {A : Nat → Int → Int} {f g : Int → Int} {key leaf pl n l : Int} {m : Nat} (hkey : 0 ≤ key ∧ key < 100) (hl0 : 0 ≤ l) (hln : l < n - 1) (hn8 : n ≤ 8) (h1 : 0 ≤ f l) (h2 : f l < 100) (h3 : 0 ≤ g l) (h4 : g l ≤ 4) (h6 : A 1 (f l) ≤ 5) (h7 : g l < A 1 (f l)) (h8 : A 2 (5 * f l + g l) = key) (hlf0 : 0 ≤ leaf) (hlf1 : leaf < 100) (hpl0 : 0 ≤ pl) (hpl1 : pl ≤ 4)
    (hp : wX_takeOut_27 post (ct_i key) (ct_i leaf) (ct_i pl) m (ct_i (l + 1)) (ct_i n) (ct_c ((ct_wy (ct_pat A (f l) (g l) (A 2 (5 * leaf + pl)) (A 3 (5 * leaf + pl))) n f g) 1)) (ct_c ((ct_wy (ct_pat A (f l) (g l) (A 2 (5 * leaf + pl)) (A 3 (5 * leaf + pl))) n f g) 2)) (ct_a ((ct_wy (ct_pat A (f l) (g l) (A 2 (5 * leaf + pl)) (A 3 (5 * leaf + pl))) n f g) 3)) (ct_c ((ct_wy (ct_pat A (f l) (g l) (A 2 (5 * leaf + pl)) (A 3 (5 * leaf + pl))) n f g) 4)) (ct_a ((ct_wy (ct_pat A (f l) (g l) (A 2 (5 * leaf + pl)) (A 3 (5 * leaf + pl))) n f g) 5)) (ct_a ((ct_wy (ct_pat A (f l) (g l) (A 2 (5 * leaf + pl)) (A 3 (5 * leaf + pl))) n f g) 6)) (ct_c ((ct_wy (ct_pat A (f l) (g l) (A 2 (5 * leaf + pl)) (A 3 (5 * leaf + pl))) n f g) 7)) (ct_c ((ct_wy (ct_pat A (f l) (g l) (A 2 (5 * leaf + pl)) (A 3 (5 * leaf + pl))) n f g) 8)) (ct_a ((ct_wy (ct_pat A (f l) (g l) (A 2 (5 * leaf + pl)) (A 3 (5 * leaf + pl))) n f g) 9)) (ct_a ((ct_wy (ct_pat A (f l) (g l) (A 2 (5 * leaf + pl)) (A 3 (5 * leaf + pl))) n f g) 10)) (ct_c ((ct_wy (ct_pat A (f l) (g l) (A 2 (5 * leaf + pl)) (A 3 (5 * leaf + pl))) n f g) 11)) (ct_c ((ct_wy (ct_pat A (f l) (g l) (A 2 (5 * leaf + pl)) (A 3 (5 * leaf + pl))) n f g) 12)) (ct_a ((ct_wy (ct_pat A (f l) (g l) (A 2 (5 * leaf + pl)) (A 3 (5 * leaf + pl))) n f g) 13)) (ct_c ((ct_wy (ct_pat A (f l) (g l) (A 2 (5 * leaf + pl)) (A 3 (5 * leaf + pl))) n f g) 14)) (ct_c ((ct_wy (ct_pat A (f l) (g l) (A 2 (5 * leaf + pl)) (A 3 (5 * leaf + pl))) n f g) 15)) (ct_c ((ct_wy (ct_pat A (f l) (g l) (A 2 (5 * leaf + pl)) (A 3 (5 * leaf + pl))) n f g) 16))) : wX_takeOut_27 post (ct_i key) (ct_i leaf) (ct_i pl) (m + 1) (ct_i l) (ct_i n) (ct_c ((ct_wy A n f g) 1)) (ct_c ((ct_wy A n f g) 2)) (ct_a ((ct_wy A n f g) 3)) (ct_c ((ct_wy A n f g) 4)) (ct_a ((ct_wy A n f g) 5)) (ct_a ((ct_wy A n f g) 6)) (ct_c ((ct_wy A n f g) 7)) (ct_c ((ct_wy A n f g) 8)) (ct_a ((ct_wy A n f g) 9)) (ct_a ((ct_wy A n f g) 10)) (ct_c ((ct_wy A n f g) 11)) (ct_c ((ct_wy A n f g) 12)) (ct_a ((ct_wy A n f g) 13)) (ct_c ((ct_wy A n f g) 14)) (ct_c ((ct_wy A n f g) 15)) (ct_c ((ct_wy A n f g) 16)) := by
  have en : ct_i n - 1 = ct_i (n - 1) := by rw [ct_l1, ct_sub]
  have el : ct_i l + 1 = ct_i (l + 1) := ct_add l 1
  have e5 : (5 : Int32) * ct_i (f l) + ct_i (g l) = ct_i (5 * f l + g l) := by rw [ct_l5, ct_mul, ct_add]
  have e5l : (5 : Int32) * ct_i leaf + ct_i pl = ct_i (5 * leaf + pl) := by rw [ct_l5, ct_mul, ct_add]
  unfold wX_takeOut_27
  rw [en]
  refine br_f (by rw [ct_le (by omega) (by omega) (by omega) (by omega)]; omega) ⟨ct_in hl0 (by omega) (by decide), nm_r (e' := ct_i (f l)) (show ct_c f (ct_i l).toNatClampNeg = _ by rw [ct_rc hl0 (by omega), ct_bI (by omega) (by omega)]) ⟨ct_in hl0 (by omega) (by decide), nm_r (e' := ct_i (g l)) (show ct_c g (ct_i l).toNatClampNeg = _ by rw [ct_rc hl0 (by omega), ct_bI (by omega) (by omega)]) ⟨ct_in h1 (by omega) (by decide), ?_⟩⟩⟩
  show (ct_c (A 1) (ct_i (f l)).toNatClampNeg ≤ ct_i (g l) → _) ∧ (¬ ct_c (A 1) (ct_i (f l)).toNatClampNeg ≤ ct_i (g l) → _)
  rw [ct_rc h1 (by omega), ct_bI (by omega) (by omega), ct_le (by omega) (by omega) (by omega) (by omega)]
  refine br_f (by omega) ?_
  rw [e5, e5l]
  refine ⟨ct_in (by omega) (by omega) (by decide), ?_⟩
  show (ct_c (A 2) (ct_i (5 * f l + g l)).toNatClampNeg = ct_i key → _) ∧ (¬ ct_c (A 2) (ct_i (5 * f l + g l)).toNatClampNeg = ct_i key → _)
  rw [ct_rc (by omega) (by omega), h8, ct_bI (by omega) (by omega)]
  refine br_t rfl ⟨ct_in (by omega) (by omega) (by decide), ct_in (by omega) (by omega) (by decide), ?_⟩
  refine ct_putAt (A := ct_wy A n f g) (A 2 (5 * leaf + pl)) (A 3 (5 * leaf + pl)) (by omega) (by omega) (show (ct_c (A 2) (ct_i (5 * leaf + pl)).toNatClampNeg).toInt8.toInt32 = _ by rw [ct_rc (by omega) (by omega), ct_tbb]) (show ct_a (A 3) (ct_i (5 * leaf + pl)).toNatClampNeg = _ from ct_rd (by omega) (by omega)) ?_
  exact nm_r el hp
/-- the end of the first loop: the leaf's place closed, the way back up -/
theorem ct_to27_e {post : St1 → Prop} {A0 A : Nat → Int → Int} {D : Nat → Nat} {SP CT : List Int} {fs : List ct_Fr} {x key : Int} {W W' ka kb : List ct_KV} {e : ct_KV} {f g : Int → Int} (hz : ct_Z A D SP CT 0 fs x W) (hnd : (ct_nd A x).1 = ka ++ e :: kb) (h4 : (ct_nd A x).1.length ≤ 4) (hlo : ct_lo fs ≤ (ct_nd A x).1.length) (hfr : ∀ fr, fr ∈ fs → A 5 fr.1 = 1) (hxf : A 5 x = 1) (hw : ct_Wy f g fs) (hfx : f (fs.length : Int) = x) (h7 : fs.length ≤ 7) (hO : ct_Ot SP A0 A) (hW' : ct_CL (ct_nd A) 0 fs ++ ((ka ++ kb) ++ ct_CR (ct_nd A) 0 fs) = W') (hWl : W'.length ≤ 25)
    (hp : ∀ B, ct_Res A0 D SP CT W' B → post (ct_lf (ct_wy B ((fs.length : Int) + 1) f g))) : wX_takeOut_27 post (ct_i key) (ct_i x) (ct_i (ka.length : Int)) 1 (ct_i (fs.length : Int)) (ct_i ((fs.length : Int) + 1)) (ct_c ((ct_wy A ((fs.length : Int) + 1) f g) 1)) (ct_c ((ct_wy A ((fs.length : Int) + 1) f g) 2)) (ct_a ((ct_wy A ((fs.length : Int) + 1) f g) 3)) (ct_c ((ct_wy A ((fs.length : Int) + 1) f g) 4)) (ct_a ((ct_wy A ((fs.length : Int) + 1) f g) 5)) (ct_a ((ct_wy A ((fs.length : Int) + 1) f g) 6)) (ct_c ((ct_wy A ((fs.length : Int) + 1) f g) 7)) (ct_c ((ct_wy A ((fs.length : Int) + 1) f g) 8)) (ct_a ((ct_wy A ((fs.length : Int) + 1) f g) 9)) (ct_a ((ct_wy A ((fs.length : Int) + 1) f g) 10)) (ct_c ((ct_wy A ((fs.length : Int) + 1) f g) 11)) (ct_c ((ct_wy A ((fs.length : Int) + 1) f g) 12)) (ct_a ((ct_wy A ((fs.length : Int) + 1) f g) 13)) (ct_c ((ct_wy A ((fs.length : Int) + 1) f g) 14)) (ct_c ((ct_wy A ((fs.length : Int) + 1) f g) 15)) (ct_c ((ct_wy A ((fs.length : Int) + 1) f g) 16)) := by
  have hxr := hz.2.2.2.1 x (List.mem_append.mpr (Or.inl (ct_pg_self _ _ _)))
  have hkc := hz.2.2.2.2.2.2.1
  have hlen : (ct_nd A x).1.length = ka.length + kb.length + 1 := by rw [hnd]; simp; omega
  obtain ⟨i1, i2, i3⟩ := ct_Z_clp hz hnd hxf
  rw [hW'] at i1
  have en : ct_i ((fs.length : Int) + 1) - 1 = ct_i (fs.length : Int) := by rw [ct_l1, ct_sub]; congr 1; omega
  have hil : (ct_nd (ct_clp A x ka.length) x).1.length + 1 = (ct_nd A x).1.length := by rw [i2, hlen]; simp
  unfold wX_takeOut_27
  rw [en]
  refine br_t (by rw [ct_le (by omega) (by omega) (by omega) (by omega)]; omega) ?_
  refine ct_closePlace (A := ct_wy A ((fs.length : Int) + 1) f g) hxr.1 hxr.2.1 (by omega) (show (ka.length : Int) < A 1 x by omega) (show A 1 x ≤ 5 by omega) ?_
  refine nm_r (e' := ct_i (fs.length : Int)) en ⟨fs.length + 1, ?_⟩
  exact ct_takeOut_132 (A0 := A0) (n := (fs.length : Int) + 1) hWl hp fs 0 x (ct_clp A x ka.length) i1 (by omega) (by omega) hfr hxf hw hfx h7 (ct_Ot_t hO i3)
end
section
/-! ===== 32: erase as a whole ===== -/
def ct_er (k : Int) : List ct_KV → List ct_KV
  | [] => []
  | e :: W => if e.1 = k then W else e :: ct_er k W
theorem ct_er_at {k v : Int} {S : List ct_KV} : ∀ (P : List ct_KV), (∀ e, e ∈ P → e.1 < k) → ct_er k (P ++ (k, v) :: S) = P ++ S := by
  intro P
  induction P with
  | nil => intro _; simp [ct_er]
  | cons e P ih =>
    intro h
    have := h e (by simp)
    simp only [List.cons_append, ct_er]
    rw [if_neg (by omega), ih (fun a ha => h a (by simp [ha]))]
theorem ct_lengthen_43 {post : St1 → Prop} {A : Nat → Int → Int} {Dr : Nat} {r : Int} (hD : Dr ≤ 7) : ∀ (d : Nat) (Fs : List ct_Fr) (y : Int) (f g : Int → Int), d + Fs.length = Dr → ct_Hl A d Fs y r → ct_Wy f g Fs →
    (∀ rs z kz e f' g', ct_At A Dr r (rs ++ Fs) 0 z kz [e] f' g' → (∀ fr, fr ∈ rs → fr.2.2.1 = []) → post (ct_lf (ct_wy A (((rs ++ Fs).length : Int) + 1) f' g'))) →
    wX_lengthenWay_43 post (d + 1) (ct_i y) (ct_i (Fs.length : Int)) (ct_c ((ct_wy A Fs.length f g) 1)) (ct_c ((ct_wy A Fs.length f g) 2)) (ct_a ((ct_wy A Fs.length f g) 3)) (ct_c ((ct_wy A Fs.length f g) 4)) (ct_a ((ct_wy A Fs.length f g) 5)) (ct_a ((ct_wy A Fs.length f g) 6)) (ct_c ((ct_wy A Fs.length f g) 7)) (ct_c ((ct_wy A Fs.length f g) 8)) (ct_a ((ct_wy A Fs.length f g) 9)) (ct_a ((ct_wy A Fs.length f g) 10)) (ct_c ((ct_wy A Fs.length f g) 11)) (ct_c ((ct_wy A Fs.length f g) 12)) (ct_a ((ct_wy A Fs.length f g) 13)) (ct_c ((ct_wy A Fs.length f g) 14)) (ct_c ((ct_wy A Fs.length f g) 15)) (ct_c ((ct_wy A Fs.length f g) 16)) := by
  intro d
  induction d with
  | zero =>
    intro Fs y f g hd hh hw hp
    obtain ⟨hx, hs, hl1, hl2, hq, hso, hg⟩ := hh
    have hlo := ct_lo_1 Fs
    have hyr := hq y (ct_pg_self _ _ _)
    have hleaf : A 4 (6 * y) < 0 := ct_nd_lf.mp hs
    obtain ⟨kz, e, hkz⟩ := ct_snoc (l := (ct_nd A y).1) (by omega)
    have hkc := ct_nd_kc (A := A) (x := y) (by omega) hl2
    have hlen : (ct_nd A y).1.length = kz.length + 1 := by rw [hkz]; simp
    unfold wX_lengthenWay_43
    refine ct_isLeaf (A := ct_wy A Fs.length f g) hyr.1 hyr.2.1 ⟨hyr.2.2, show A 4 (6 * y) < 128 by omega⟩ ?_
    rw [if_pos (show ct_wy A Fs.length f g 4 (6 * y) < 0 from hleaf)]
    refine br_f (by decide) ⟨ct_in hyr.1 (by omega) (by decide), ?_⟩
    have ek : ct_c (A 1) (ct_i y).toNatClampNeg - 1 = ct_i (kz.length : Int) := by
      rw [ct_rc hyr.1 (by omega), ct_bI (by omega) (by omega), ct_l1, ct_sub]; congr 1; omega
    show wpX_pushWay _ (ct_lf (ct_wy A Fs.length f g)) (ct_i y) (ct_c (A 1) (ct_i y).toNatClampNeg - 1)
    rw [ek]
    refine ct_pushWy (A := A) (by omega) (by omega) ?_
    exact hp [] y kz e _ _ ⟨hd, hx, hs, hl1, hl2, hkz, ct_Wy_up Fs _ _ (by omega) (by omega) hw, ct_us, ct_us⟩ (by simp)
  | succ d ih =>
    intro Fs y f g hd hh hw hp
    have hh0 := hh
    obtain ⟨hx, hs, hl1, hl2, hq, hso, hg⟩ := hh
    have hlo := ct_lo_1 Fs
    have hyr := hq y (ct_pg_self _ _ _)
    obtain ⟨ca, c, cb, hnx, hl3, hl4, hc4, hc0, hc1, h40, h41, hdn, hCL, hCR⟩ := ct_Hl_dn (ka := (ct_nd A y).1) (kb := []) hh0 (by simp)
    have hkc := ct_nd_kc (A := A) (x := y) (by omega) hl2
    unfold wX_lengthenWay_43
    refine ct_isLeaf (A := ct_wy A Fs.length f g) hyr.1 hyr.2.1 ⟨hyr.2.2, show A 4 (6 * y) < 128 by omega⟩ ?_
    rw [if_neg (show ¬ ct_wy A Fs.length f g 4 (6 * y) < 0 from show ¬ A 4 (6 * y) < 0 by omega)]
    refine br_t rfl ⟨ct_in hyr.1 (by omega) (by decide), ?_⟩
    have ek : ct_c (A 1) (ct_i y).toNatClampNeg = ct_i ((ct_nd A y).1.length : Int) := by
      rw [ct_rc hyr.1 (by omega), ct_bI (by omega) (by omega), hkc]
    show wpX_pushWay _ (ct_lf (ct_wy A Fs.length f g)) (ct_i y) (ct_c (A 1) (ct_i y).toNatClampNeg)
    rw [ek]
    refine ct_pushWy (A := A) (by omega) (by omega) ?_
    refine ⟨ct_in hyr.1 (by omega) (by decide), ?_⟩
    show vp_in (6 * ct_i y + ct_c (A 1) (ct_i y).toNatClampNeg) 600 ∧ ∀ x2 : Int32, x2 = ct_c (A 4) (6 * ct_i y + ct_c (A 1) (ct_i y).toNatClampNeg).toNatClampNeg → _
    rw [ek, ct_l6, ct_mul, ct_add]
    refine ⟨ct_in (by omega) (by omega) (by decide), nm_r (e' := ct_i c) (by rw [ct_rc (by omega) (by omega), hc4, ct_bI (by omega) (by omega)]) ?_⟩
    have := ih ((y, ((ct_nd A y).1, ca), ([], cb)) :: Fs) c (ct_up f Fs.length y) (ct_up g Fs.length ((ct_nd A y).1.length : Int)) (by simp; omega) hdn ⟨ct_us, ct_us, ct_Wy_up Fs _ _ (by omega) (by omega) hw⟩ (fun rs z kz e f' g' hAt hrs => by
      have h := hp (rs ++ [(y, ((ct_nd A y).1, ca), ([], cb))]) z kz e f' g' (by simpa using hAt) (by
        intro fr hfr
        rcases List.mem_append.mp hfr with h | h
        · exact hrs fr h
        · rw [List.mem_singleton.mp h])
      simpa using h)
    simp only [List.length_cons] at this
    rw [show ((Fs.length + 1 : Nat) : Int) = (Fs.length : Int) + 1 by omega] at this
    exact this
theorem ct_kb_CR {H : ct_Hp} {p : Int} {ka kb : List ct_KV} {ca cb : List Int} {gs0 : List ct_Fr} {e : ct_KV} (he : e ∈ kb) : ∀ (gs1 : List ct_Fr) (d : Nat) (x r : Int), ct_Cx H d (gs1 ++ (p, (ka, ca), (kb, cb)) :: gs0) x r → e ∈ ct_CR H d (gs1 ++ (p, (ka, ca), (kb, cb)) :: gs0) := by
  intro gs1
  induction gs1 with
  | nil =>
    intro d x r h
    simp only [List.nil_append, ct_Cx] at h
    simp only [List.nil_append, ct_CR]
    exact List.mem_append.mpr (Or.inl (ct_zr_mem _ _ (by simpa using h.2.2.1) he))
  | cons a gs1 ih =>
    obtain ⟨pa, ⟨kaa, caa⟩, kba, cba⟩ := a
    intro d x r h
    simp only [List.cons_append, ct_Cx] at h
    simp only [List.cons_append, ct_CR]
    exact List.mem_append.mpr (Or.inr (ih (d + 1) pa r h.2.2.2.2.2.2))
/-- a frame whose right pairs are above the key: no place of the key -/
theorem ct_nm_of {A : Nat → Int → Int} {D : Nat → Nat} {SP CT : List Int} {d : Nat} {gs l1 l2 : List ct_Fr} {x key : Int} {W : List ct_KV} {f g : Int → Int} {fr : ct_Fr} (hz : ct_Z A D SP CT d gs x W) (hgs : gs = l1 ++ fr :: l2) (hf : f (l2.length : Int) = fr.1) (hg : g (l2.length : Int) = (fr.2.1.1.length : Int)) (hk : ∀ e, e ∈ fr.2.2.1 → key < e.1 ∧ e.1 < 100) (hkey : 0 ≤ key) : ct_nm A f g key (l2.length : Int) := by
  obtain ⟨p, ⟨ka, ca⟩, kb, cb⟩ := fr
  simp only at hf hg hk
  have hz1 := hz.1
  rw [hgs] at hz1
  obtain ⟨q1, q2, q3⟩ := ct_Cx_get l1 d x _ hz1
  have hpr := hz.2.2.2.1 p (List.mem_append.mpr (Or.inr (by rw [hgs]; exact ct_fr_CP _ _ (p, (ka, ca), (kb, cb)) (by simp))))
  have hlen : (ct_nd A p).1.length = ka.length + kb.length := by rw [q1]; simp
  have hkc := ct_nd_kc (A := A) (x := p) (by omega) (by omega)
  unfold ct_nm
  rw [hf, hg]
  refine ⟨hpr.1, hpr.2.1, by omega, by omega, by omega, by omega, fun hlt => ?_⟩
  cases kb with
  | nil => simp at hlen; omega
  | cons h kb =>
    have hv := ct_nd_kv q1
    have hh := hk h (by simp)
    rw [hv.1]
    exact ⟨by omega, hh.2, by omega⟩
theorem ct_takeOut {post : St1 → Prop} {A : Nat → Int → Int} {x key n : Int} {pl k : Nat} {f g : Int → Int} (hx0 : 0 ≤ x) (hx1 : x < 100) (hpl : pl ≤ 4) (hn1 : 1 ≤ n) (hn8 : n ≤ 8) (hfx : f (n - 1) = x) (hgx : g (n - 1) = (pl : Int)) (hp : wX_takeOut_27 post (ct_i key) (ct_i x) (ct_i (pl : Int)) k (ct_i 0) (ct_i n) (ct_c ((ct_wy A n f g) 1)) (ct_c ((ct_wy A n f g) 2)) (ct_a ((ct_wy A n f g) 3)) (ct_c ((ct_wy A n f g) 4)) (ct_a ((ct_wy A n f g) 5)) (ct_a ((ct_wy A n f g) 6)) (ct_c ((ct_wy A n f g) 7)) (ct_c ((ct_wy A n f g) 8)) (ct_a ((ct_wy A n f g) 9)) (ct_a ((ct_wy A n f g) 10)) (ct_c ((ct_wy A n f g) 11)) (ct_c ((ct_wy A n f g) 12)) (ct_a ((ct_wy A n f g) 13)) (ct_c ((ct_wy A n f g) 14)) (ct_c ((ct_wy A n f g) 15)) (ct_c ((ct_wy A n f g) 16))) : wpX_takeOut post (ct_lf (ct_wy A n f g)) (ct_i key) := by
  have en : ct_i n - 1 = ct_i (n - 1) := by rw [ct_l1, ct_sub]
  unfold wpX_takeOut
  show vp_in (ct_i n - 1) 8 ∧ ∀ x2 : Int32, x2 = ct_c f (ct_i n - 1).toNatClampNeg → vp_in (ct_i n - 1) 8 ∧ ∀ x3 : Int32, x3 = ct_c g (ct_i n - 1).toNatClampNeg → ∃ fu : Nat, wX_takeOut_27 post (ct_i key) x2 x3 fu 0 (ct_i n) (ct_c ((ct_wy A n f g) 1)) (ct_c ((ct_wy A n f g) 2)) (ct_a ((ct_wy A n f g) 3)) (ct_c ((ct_wy A n f g) 4)) (ct_a ((ct_wy A n f g) 5)) (ct_a ((ct_wy A n f g) 6)) (ct_c ((ct_wy A n f g) 7)) (ct_c ((ct_wy A n f g) 8)) (ct_a ((ct_wy A n f g) 9)) (ct_a ((ct_wy A n f g) 10)) (ct_c ((ct_wy A n f g) 11)) (ct_c ((ct_wy A n f g) 12)) (ct_a ((ct_wy A n f g) 13)) (ct_c ((ct_wy A n f g) 14)) (ct_c ((ct_wy A n f g) 15)) (ct_c ((ct_wy A n f g) 16))
  rw [en]
  exact ⟨ct_in (by omega) (by omega) (by decide), nm_r (e' := ct_i x) (by rw [ct_rc (by omega) (by omega), hfx, ct_bI (by omega) (by omega)]) ⟨ct_in (by omega) (by omega) (by decide), nm_r (e' := ct_i (pl : Int)) (by rw [ct_rc (by omega) (by omega), hgx, ct_bI (by omega) (by omega)]) ⟨k, hp⟩⟩⟩
/-- the key in a leaf -/
theorem ct_out_leaf {post : St1 → Prop} {A0 A : Nat → Int → Int} {D : Nat → Nat} {SP CT : List Int} {gs : List ct_Fr} {x key w : Int} {W ka kb : List ct_KV} {f g : Int → Int} (hkey : 0 ≤ key ∧ key < 100) (hz : ct_Z A D SP CT 0 gs x W) (hWW : ct_W W) (hnd : (ct_nd A x).1 = ka ++ (key, w) :: kb) (h4 : (ct_nd A x).1.length ≤ 4) (hlo : ct_lo gs ≤ (ct_nd A x).1.length) (hfr : ∀ fr, fr ∈ gs → A 5 fr.1 = 1) (hxf : A 5 x = 1) (hw : ct_Wy f g gs) (hfx : f (gs.length : Int) = x) (hgx : g (gs.length : Int) = (ka.length : Int)) (h7 : gs.length ≤ 7) (hO : ct_Ot SP A0 A) (hFk : ct_Fk key (gs.map ct_ky))
    (hp : ∀ B, ct_Res A0 D SP CT (ct_er key W) B → (ct_er key W).length + 1 = W.length → post (ct_lf (ct_wy B ((gs.length : Int) + 1) f g))) : wpX_takeOut post (ct_lf (ct_wy A ((gs.length : Int) + 1) f g)) (ct_i key) := by
  have hxr := hz.2.2.2.1 x (List.mem_append.mpr (Or.inl (ct_pg_self _ _ _)))
  have hWl := hWW.2.2
  have hWeq : W = ct_CL (ct_nd A) 0 gs ++ ((ka ++ (key, w) :: kb) ++ ct_CR (ct_nd A) 0 gs) := by
    have : ct_fl (ct_nd A) 0 x = ka ++ (key, w) :: kb := hnd
    rw [← this]; exact hz.2.2.2.2.2.1.symm
  have hso : ct_so (ct_CL (ct_nd A) 0 gs ++ ((ka ++ (key, w) :: kb) ++ ct_CR (ct_nd A) 0 gs)) := by rw [← hWeq]; exact hWW.1
  have hso1 := ct_so_app hso
  have hso2 := ct_so_app hso1.2.1
  have hso3 := ct_so_app hso2.1
  have her : ct_er key W = ct_CL (ct_nd A) 0 gs ++ ((ka ++ kb) ++ ct_CR (ct_nd A) 0 gs) := by
    have := ct_er_at (k := key) (v := w) (S := kb ++ ct_CR (ct_nd A) 0 gs) (ct_CL (ct_nd A) 0 gs ++ ka) (fun e he => by
      rcases List.mem_append.mp he with h | h
      · exact hso1.2.2 e h (key, w) (by simp)
      · exact hso3.2.2 e h (key, w) (by simp))
    rw [hWeq]
    simp only [List.append_assoc, List.cons_append] at this ⊢
    exact this
  have hlen : (ct_er key W).length + 1 = W.length := by rw [her]; rw [hWeq]; simp; omega
  have hka : ka.length ≤ 4 := by rw [hnd] at h4; simp at h4; omega
  have e27 := ct_to27_e (post := post) (A0 := A0) (key := key) hz hnd h4 hlo hfr hxf hw hfx h7 hO her.symm (by omega) (fun B hB => hp B hB hlen)
  refine ct_takeOut (A := A) (pl := ka.length) (k := 1 + gs.length) hxr.1 hxr.2.1 hka (by omega) (by omega) (by rw [show (gs.length : Int) + 1 - 1 = gs.length by omega]; exact hfx) (by rw [show (gs.length : Int) + 1 - 1 = gs.length by omega]; exact hgx) ?_
  refine ct_to27_sts hkey (by omega) (by omega) e27 gs.length 0 (by omega) (by omega) (fun j h0 h1 => ?_)
  obtain ⟨l1, fr, l2, k1, k2, k3, k4⟩ := ct_Wy_get gs j.toNat (by omega) hw
  have ej : j = (l2.length : Int) := by omega
  rw [ej]
  have e1 : ((j.toNat : Nat) : Int) = (l2.length : Int) := by omega
  rw [e1] at k3 k4
  refine ct_nm_of hz k1 k3 k4 (fun a ha => ⟨(hFk (ct_ky fr) (by rw [k1]; simp)).2 a ha, ?_⟩) hkey.1
  obtain ⟨p, ⟨ka', ca'⟩, kb', cb'⟩ := fr
  have hz1 := hz.1
  rw [k1] at hz1
  have := ct_kb_CR (e := a) ha l1 0 x _ hz1
  rw [← k1] at this
  exact (hWW.2.1 a (by rw [hWeq]; simp [this])).2.1
/-- the key above the leaves: the leaf's last pair takes its place -/
theorem ct_out_up {post : St1 → Prop} {A0 A : Nat → Int → Int} {D : Nat → Nat} {SP CT : List Int} {gs1 gs0 : List ct_Fr} {p x key w : Int} {W ka kb kz : List ct_KV} {ca cb : List Int} {e : ct_KV} {f g : Int → Int} (hkey : 0 ≤ key ∧ key < 100) (hz : ct_Z A D SP CT 0 (gs1 ++ (p, (ka, ca), ((key, w) :: kb, cb)) :: gs0) x W) (hWW : ct_W W) (hnd : (ct_nd A x).1 = kz ++ [e]) (h4 : (ct_nd A x).1.length ≤ 4) (hlo : 2 ≤ (ct_nd A x).1.length) (hfr : ∀ fr, fr ∈ gs1 ++ (p, (ka, ca), ((key, w) :: kb, cb)) :: gs0 → A 5 fr.1 = 1) (hxf : A 5 x = 1) (hw : ct_Wy f g (gs1 ++ (p, (ka, ca), ((key, w) :: kb, cb)) :: gs0)) (hfx : f ((gs1 ++ (p, (ka, ca), ((key, w) :: kb, cb)) :: gs0).length : Int) = x) (hgx : g ((gs1 ++ (p, (ka, ca), ((key, w) :: kb, cb)) :: gs0).length : Int) = (kz.length : Int)) (h7 : (gs1 ++ (p, (ka, ca), ((key, w) :: kb, cb)) :: gs0).length ≤ 7) (hO : ct_Ot SP A0 A) (hg1 : ∀ fr, fr ∈ gs1 → fr.2.2.1 = []) (hFk : ct_Fk key (gs0.map ct_ky))
    (hp : ∀ B, ct_Res A0 D SP CT (ct_er key W) B → (ct_er key W).length + 1 = W.length → post (ct_lf (ct_wy B (((gs1 ++ (p, (ka, ca), ((key, w) :: kb, cb)) :: gs0).length : Int) + 1) f g))) : wpX_takeOut post (ct_lf (ct_wy A (((gs1 ++ (p, (ka, ca), ((key, w) :: kb, cb)) :: gs0).length : Int) + 1) f g)) (ct_i key) := by
  have hxr := hz.2.2.2.1 x (List.mem_append.mpr (Or.inl (ct_pg_self _ _ _)))
  have hWl := hWW.2.2
  have hpf := hfr (p, (ka, ca), ((key, w) :: kb, cb)) (by simp)
  have hpr := hz.2.2.2.1 p (List.mem_append.mpr (Or.inr (ct_fr_CP _ _ (p, (ka, ca), ((key, w) :: kb, cb)) (by simp))))
  obtain ⟨R, r1, r2, r3, r4, r5, r6⟩ := ct_Z_frm (e := e) hz hg1 hpf
  obtain ⟨q1, q2, q3⟩ := ct_Cx_get gs1 0 x _ hz.1
  simp only [List.length_cons] at q2 q3
  have hfl : ct_fl (ct_nd A) 0 x = kz ++ [e] := hnd
  rw [hfl] at r1 r2
  have hso : ct_so (ct_CL (ct_nd A) 0 (gs1 ++ (p, (ka, ca), ((key, w) :: kb, cb)) :: gs0) ++ ((kz ++ [e]) ++ (key, w) :: R)) := by rw [← r1]; exact hWW.1
  have hso1 := ct_so_app hso
  have hso2 := ct_so_app hso1.2.1
  have her : ct_er key W = ct_CL (ct_nd A) 0 (gs1 ++ (p, (ka, ca), ((key, w) :: kb, cb)) :: gs0) ++ (kz ++ e :: R) := by
    have := ct_er_at (k := key) (v := w) (S := R) (ct_CL (ct_nd A) 0 (gs1 ++ (p, (ka, ca), ((key, w) :: kb, cb)) :: gs0) ++ (kz ++ [e])) (fun a ha => by
      rcases List.mem_append.mp ha with h | h
      · exact hso1.2.2 a h (key, w) (by simp)
      · exact hso2.2.2 a h (key, w) (by simp))
    rw [r1]
    simp only [List.append_assoc, List.cons_append, List.nil_append] at this ⊢
    exact this
  have hlen : (ct_er key W).length + 1 = W.length := by rw [her]; rw [r1]; simp; omega
  have hkz : kz.length ≤ 4 := by rw [hnd] at h4; simp at h4; omega
  have hll : (gs1 ++ (p, (ka, ca), (e :: kb, cb)) :: gs0).length = (gs1 ++ (p, (ka, ca), ((key, w) :: kb, cb)) :: gs0).length := by simp
  have hw' : ct_Wy f g (gs1 ++ (p, (ka, ca), (e :: kb, cb)) :: gs0) := by
    have : ∀ (l : List ct_Fr), ct_Wy f g (l ++ (p, (ka, ca), ((key, w) :: kb, cb)) :: gs0) → ct_Wy f g (l ++ (p, (ka, ca), (e :: kb, cb)) :: gs0) := by
      intro l
      induction l with
      | nil => intro h; exact h
      | cons a l ih =>
        intro h
        simp only [List.cons_append] at h ⊢
        have hl : (l ++ (p, (ka, ca), (e :: kb, cb)) :: gs0).length = (l ++ (p, (ka, ca), ((key, w) :: kb, cb)) :: gs0).length := by simp
        exact ⟨by rw [hl]; exact h.1, by rw [hl]; exact h.2.1, ih h.2.2⟩
    exact this gs1 hw
  have hfr' : ∀ fr, fr ∈ gs1 ++ (p, (ka, ca), (e :: kb, cb)) :: gs0 → ct_pat A p ka.length e.1 e.2 5 fr.1 = 1 := by
    intro fr hfr'
    show A 5 fr.1 = 1
    rcases List.mem_append.mp hfr' with h | h
    · exact hfr fr (List.mem_append.mpr (Or.inl h))
    · rcases List.mem_cons.mp h with h | h
      · rw [h]; exact hpf
      · exact hfr fr (List.mem_append.mpr (Or.inr (List.mem_cons_of_mem _ h)))
  have hlo2 : ct_lo (gs1 ++ (p, (ka, ca), (e :: kb, cb)) :: gs0) = 2 := by cases gs1 <;> rfl
  have hlf := ct_nd_kv (A := A) (x := x) (ka := kz) (e := e) (kb := []) hnd
  have e27 := ct_to27_e (post := post) (A0 := A0) (key := key) (W' := ct_er key W) (ka := kz) (e := e) (kb := []) (f := f) (g := g) r2 (by rw [r5]; exact hnd) (by rw [r5]; exact h4) (by rw [r5, hlo2]; exact hlo) hfr' hxf hw' (by rw [hll]; exact hfx) (by rw [hll]; exact h7) (ct_Ot_t hO r6) (by rw [r3, r4, her]; simp) (by omega) (fun B hB => by rw [hll]; exact hp B hB hlen)
  rw [hll] at e27
  have hlevel : ((gs1 ++ (p, (ka, ca), ((key, w) :: kb, cb)) :: gs0).length : Int) = (gs0.length : Int) + 1 + gs1.length := by simp; omega
  -- the levels below the key's place
  have s1 := ct_to27_sts (post := post) (A := ct_pat A p ka.length e.1 e.2) (f := f) (g := g) (leaf := x) (pl := (kz.length : Int)) hkey (u := ((gs1 ++ (p, (ka, ca), ((key, w) :: kb, cb)) :: gs0).length : Int)) (by omega) (by omega) e27 gs1.length ((gs0.length : Int) + 1) (by omega) (by omega) (fun j h0 h1 => by
    obtain ⟨l1, fr, l2, k1, k2, k3, k4⟩ := ct_Wy_get (gs1 ++ (p, (ka, ca), (e :: kb, cb)) :: gs0) j.toNat (by rw [hll]; omega) hw'
    have ej : j = (l2.length : Int) := by omega
    have e1 : ((j.toNat : Nat) : Int) = (l2.length : Int) := by omega
    rw [e1] at k3 k4
    rw [ej]
    have hin : fr ∈ gs1 := by
      have hlt : l1.length < gs1.length := by
        have := congrArg List.length k1
        simp at this
        omega
      rcases List.append_eq_append_iff.mp k1 with ⟨t, ht1, ht2⟩ | ⟨t, ht1, ht2⟩
      · have := congrArg List.length ht1
        simp at this
        omega
      · cases t with
        | nil =>
          have := congrArg List.length ht1
          simp at this
          omega
        | cons a t =>
          have := (List.cons.inj ht2).1
          rw [ht1, this]; simp
    exact ct_nm_of r2 k1 k3 k4 (fun a ha => by rw [hg1 fr hin] at ha; simp at ha) hkey.1)
  -- the key's place
  have hfg : f (gs0.length : Int) = p ∧ g (gs0.length : Int) = (ka.length : Int) := by
    have : ∀ (l : List ct_Fr), ct_Wy f g (l ++ (p, (ka, ca), ((key, w) :: kb, cb)) :: gs0) → f (gs0.length : Int) = p ∧ g (gs0.length : Int) = (ka.length : Int) := by
      intro l
      induction l with
      | nil => intro h; exact ⟨h.1, h.2.1⟩
      | cons a l ih => intro h; exact ih h.2.2
    exact this gs1 hw
  have hplen : (ct_nd A p).1.length = ka.length + (kb.length + 1) := by rw [q1]; simp
  have hpkc := ct_nd_kc (A := A) (x := p) (by omega) (by omega)
  have hpv := ct_nd_kv (A := A) (x := p) (ka := ka) (e := (key, w)) (kb := kb) q1
  have s2 := ct_to27_m (post := post) (A := A) (f := f) (g := g) (key := key) (leaf := x) (pl := (kz.length : Int)) (n := ((gs1 ++ (p, (ka, ca), ((key, w) :: kb, cb)) :: gs0).length : Int) + 1) (l := (gs0.length : Int)) (m := 1 + gs1.length) hkey (by omega) (by omega) (by omega) (by rw [hfg.1]; exact hpr.1) (by rw [hfg.1]; exact hpr.2.1) (by rw [hfg.2]; omega) (by rw [hfg.2]; omega) (by rw [hfg.1]; omega) (by rw [hfg.1, hfg.2]; omega) (by rw [hfg.1, hfg.2]; exact hpv.1) hxr.1 hxr.2.1 (by omega) (by omega) (by rw [hfg.1, hfg.2, hlf.1, hlf.2]; exact s1)
  refine ct_takeOut (A := A) (pl := kz.length) (k := 1 + gs1.length + 1 + gs0.length) hxr.1 hxr.2.1 hkz (by omega) (by omega) (by rw [show ((gs1 ++ (p, (ka, ca), ((key, w) :: kb, cb)) :: gs0).length : Int) + 1 - 1 = (gs1 ++ (p, (ka, ca), ((key, w) :: kb, cb)) :: gs0).length by omega]; exact hfx) (by rw [show ((gs1 ++ (p, (ka, ca), ((key, w) :: kb, cb)) :: gs0).length : Int) + 1 - 1 = (gs1 ++ (p, (ka, ca), ((key, w) :: kb, cb)) :: gs0).length by omega]; exact hgx) ?_
  refine ct_to27_sts hkey (by omega) (by omega) s2 gs0.length 0 (by omega) (by omega) (fun j h0 h1 => ?_)
  obtain ⟨l1, fr, l2, k1, k2, k3, k4⟩ := ct_Wy_get (gs1 ++ (p, (ka, ca), ((key, w) :: kb, cb)) :: gs0) j.toNat (by omega) hw
  have ej : j = (l2.length : Int) := by omega
  have e1 : ((j.toNat : Nat) : Int) = (l2.length : Int) := by omega
  rw [e1] at k3 k4
  rw [ej]
  have hin : fr ∈ gs0 := by
    have hgt : l1.length > gs1.length := by
      have := congrArg List.length k1
      simp at this
      omega
    rcases List.append_eq_append_iff.mp k1 with ⟨t, ht1, ht2⟩ | ⟨t, ht1, ht2⟩
    · cases t with
      | nil =>
        have := congrArg List.length ht1
        simp at this
        omega
      | cons a t =>
        have := (List.cons.inj ht2).2
        rw [this]; simp
    · have := congrArg List.length ht1
      simp at this
      omega
  refine ct_nm_of hz k1 k3 k4 (fun a ha => ⟨(hFk (ct_ky fr) (List.mem_map_of_mem hin)).2 a ha, ?_⟩) hkey.1
  obtain ⟨p', ⟨ka', ca'⟩, kb', cb'⟩ := fr
  have hz1 := hz.1
  rw [k1] at hz1
  have := ct_kb_CR (e := a) ha l1 0 x _ hz1
  rw [← k1] at this
  have hWe := hz.2.2.2.2.2.1
  exact (hWW.2.1 a (by rw [← hWe]; simp [this])).2.1
end
section
/-! ===== 33: erase ===== -/
theorem ct_map_cons {α β : Type} {f : α → β} {b : β} {l2 : List β} : ∀ (l : List α) (l1 : List β), l.map f = l1 ++ b :: l2 → ∃ a1 a a2, l = a1 ++ a :: a2 ∧ a1.map f = l1 ∧ f a = b ∧ a2.map f = l2 := by
  intro l
  induction l with
  | nil => intro l1 h; simp at h
  | cons x l ih =>
    intro l1 h
    cases l1 with
    | nil =>
      simp only [List.map_cons, List.nil_append, List.cons.injEq] at h
      exact ⟨[], x, l, rfl, rfl, h.1, h.2⟩
    | cons y l1 =>
      simp only [List.map_cons, List.cons_append, List.cons.injEq] at h
      obtain ⟨a1, a, a2, e1, e2, e3, e4⟩ := ih l1 h.2
      exact ⟨x :: a1, a, a2, by rw [e1]; rfl, by simp [h.1, e2], e3, e4⟩
theorem ct_lengthen_leaf {post : St1 → Prop} {A : Nat → Int → Int} {n x : Int} {f g : Int → Int} (hn1 : 1 ≤ n) (hn8 : n ≤ 8) (hx0 : 0 ≤ x) (hx1 : x < 100) (hfx : f (n - 1) = x) (hlf : A 4 (6 * x) < 0) (hb : -128 ≤ A 4 (6 * x)) (hp : post (ct_lf (ct_wy A n f g))) : wpX_lengthenWay post (ct_lf (ct_wy A n f g)) := by
  have en : ct_i n - 1 = ct_i (n - 1) := by rw [ct_l1, ct_sub]
  unfold wpX_lengthenWay
  show vp_in (ct_i n - 1) 8 ∧ ∀ x1 : Int32, x1 = ct_c f (ct_i n - 1).toNatClampNeg → wpX_isLeaf _ (ct_lf (ct_wy A n f g)) x1
  rw [en]
  refine ⟨ct_in (by omega) (by omega) (by decide), nm_r (e' := ct_i x) (by rw [ct_rc (by omega) (by omega), hfx, ct_bI (by omega) (by omega)]) ?_⟩
  refine ct_isLeaf (A := ct_wy A n f g) hx0 hx1 ⟨hb, show A 4 (6 * x) < 128 by omega⟩ ?_
  rw [if_pos (show ct_wy A n f g 4 (6 * x) < 0 from hlf)]
  exact br_f (by decide) hp
theorem ct_lengthen_in {post : St1 → Prop} {A : Nat → Int → Int} {n x c i : Int} {f g : Int → Int} {k : Nat} (hn1 : 1 ≤ n) (hn8 : n ≤ 8) (hx0 : 0 ≤ x) (hx1 : x < 100) (hi0 : 0 ≤ i) (hi5 : i ≤ 5) (hfx : f (n - 1) = x) (hgx : g (n - 1) = i) (hnl : 0 ≤ A 4 (6 * x)) (hnl2 : A 4 (6 * x) < 100) (hc : A 4 (6 * x + i) = c) (hc0 : 0 ≤ c) (hc1 : c < 100) (hp : wX_lengthenWay_43 post k (ct_i c) (ct_i n) (ct_c ((ct_wy A n f g) 1)) (ct_c ((ct_wy A n f g) 2)) (ct_a ((ct_wy A n f g) 3)) (ct_c ((ct_wy A n f g) 4)) (ct_a ((ct_wy A n f g) 5)) (ct_a ((ct_wy A n f g) 6)) (ct_c ((ct_wy A n f g) 7)) (ct_c ((ct_wy A n f g) 8)) (ct_a ((ct_wy A n f g) 9)) (ct_a ((ct_wy A n f g) 10)) (ct_c ((ct_wy A n f g) 11)) (ct_c ((ct_wy A n f g) 12)) (ct_a ((ct_wy A n f g) 13)) (ct_c ((ct_wy A n f g) 14)) (ct_c ((ct_wy A n f g) 15)) (ct_c ((ct_wy A n f g) 16))) : wpX_lengthenWay post (ct_lf (ct_wy A n f g)) := by
  have en : ct_i n - 1 = ct_i (n - 1) := by rw [ct_l1, ct_sub]
  unfold wpX_lengthenWay
  show vp_in (ct_i n - 1) 8 ∧ ∀ x1 : Int32, x1 = ct_c f (ct_i n - 1).toNatClampNeg → wpX_isLeaf (fun r_3 => (r_3 = 0 → vp_in (ct_i n - 1) 8 ∧ vp_in (6 * x1 + ct_c g (ct_i n - 1).toNatClampNeg) 600 ∧ ∀ x2 : Int32, x2 = ct_c (A 4) (6 * x1 + ct_c g (ct_i n - 1).toNatClampNeg).toNatClampNeg → ∃ fu : Nat, wX_lengthenWay_43 post fu x2 (ct_i n) (ct_c ((ct_wy A n f g) 1)) (ct_c ((ct_wy A n f g) 2)) (ct_a ((ct_wy A n f g) 3)) (ct_c ((ct_wy A n f g) 4)) (ct_a ((ct_wy A n f g) 5)) (ct_a ((ct_wy A n f g) 6)) (ct_c ((ct_wy A n f g) 7)) (ct_c ((ct_wy A n f g) 8)) (ct_a ((ct_wy A n f g) 9)) (ct_a ((ct_wy A n f g) 10)) (ct_c ((ct_wy A n f g) 11)) (ct_c ((ct_wy A n f g) 12)) (ct_a ((ct_wy A n f g) 13)) (ct_c ((ct_wy A n f g) 14)) (ct_c ((ct_wy A n f g) 15)) (ct_c ((ct_wy A n f g) 16))) ∧ (¬ r_3 = 0 → post (ct_lf (ct_wy A n f g)))) (ct_lf (ct_wy A n f g)) x1
  rw [en]
  refine ⟨ct_in (by omega) (by omega) (by decide), nm_r (e' := ct_i x) (by rw [ct_rc (by omega) (by omega), hfx, ct_bI (by omega) (by omega)]) ?_⟩
  refine ct_isLeaf (A := ct_wy A n f g) hx0 hx1 ⟨show -128 ≤ A 4 (6 * x) by omega, show A 4 (6 * x) < 128 by omega⟩ ?_
  rw [if_neg (show ¬ ct_wy A n f g 4 (6 * x) < 0 from show ¬ A 4 (6 * x) < 0 by omega)]
  refine br_t rfl ?_
  rw [ct_rc (by omega) (by omega), hgx, ct_bI (by omega) (by omega), ct_l6, ct_mul, ct_add]
  exact ⟨ct_in (by omega) (by omega) (by decide), ct_in (by omega) (by omega) (by decide), nm_r (e' := ct_i c) (by rw [ct_rc (by omega) (by omega), hc, ct_bI (by omega) (by omega)]) ⟨k, hp⟩⟩
theorem ct_erase {post : Int32 → St1 → Prop} {A : Nat → Int → Int} {D : Nat → Nat} {SP CT : List Int} {W : List ct_KV} {key : Int} (hw : ct_Wr A D SP CT W) (hkey : 0 ≤ key ∧ key < 100)
    (hp0 : (∀ e, e ∈ W → e.1 ≠ key) → ∀ n f g, post 0 (ct_lf (ct_wy A n f g)))
    (hp1 : (∃ v, (key, v) ∈ W) → ∀ B n f g, ct_Res A D SP CT (ct_er key W) B → (ct_er key W).length + 1 = W.length → post 1 (ct_lf (ct_wy (ct_st B 12 (ct_up (B 12) 3 (B 12 3 - 1))) n f g))) : wpX_erase post (ct_lf A) (ct_i key) := by
  obtain ⟨hS, hWW, h12, dw, hR, hO, hF⟩ := hw
  have hrg := ct_R_rg hR
  have hWl := hWW.2.2
  have e11 : ct_c (A 11) 3 = ct_i (A 11 3) := by rw [ct_rc3, ct_bI (by omega) (by omega)]
  have h12c : ∀ B, ct_Ot SP A B → upd (ct_c (B 12)) 3 ((ct_c (B 12) 3 - 1).toInt8.toInt32) = ct_c (ct_up (B 12) 3 (B 12 3 - 1)) := by
    intro B hOt
    have : B 12 3 = W.length := by rw [hOt.1.2.2.2.2.1]; exact h12
    rw [ct_rc3, ct_bI (by omega) (by omega), ct_l1, ct_sub, ct_tb, ct_wc3]
  unfold wpX_erase
  refine ct_isKey hkey.1 (by omega) ?_
  refine br_f (by decide) ?_
  show wpX_find _ (ct_lf A) (ct_c (A 11) 3) (ct_i key)
  rw [e11]
  rcases hR with ⟨hr, hw0⟩ | ⟨hr, hT⟩
  · subst hw0
    rw [hr]
    refine ct_find_e (A := A) (by omega) ?_
    exact br_t rfl (hp0 (by simp) _ _ _)
  · have hz := ct_Z_root hS hT (fun q hq => hO q hr hq) (fun q h0 h1 h2 => (hF q h0 h1 h2).2)
    have hD := ct_dep hT.1 hT.2.1 (by rw [hT.2.2.2.2.2.2]; omega)
    refine ct_find (A := A) hT hWW.1 hWW.2.1 (by omega) hkey (fun fs d x ka kb w f g hAt hcl hcr => ?_) (fun fs x ka kb f g hAt hcl hcr => ?_)
    · -- found
      have hAt' := hAt
      obtain ⟨g1, g2, g3, g4, g5, g6, g7, g8, g9⟩ := hAt
      have hvl := ct_At_vl hT hWW hAt'
      have hFk := ct_Fk_of fs d x _ g2 hcl hcr
      have hpg := ct_Cx_pg fs d x _ g2
      rw [g1] at hpg
      have hxW : x ∈ ct_pg (ct_nd A) dw (A 11 3) := hpg.mem_iff.mpr (List.mem_append.mpr (Or.inl (ct_pg_self _ _ _)))
      have hxr := hT.2.2.2.1 x hxW
      have hlo := ct_lo_1 fs
      have el1 : (fs.length : Int) + 1 - 1 = fs.length := by omega
      refine br_f (by decide) ?_
      cases d with
      | zero =>
        have hlf : A 4 (6 * x) < 0 := ct_nd_lf.mp g3
        refine ct_lengthen_leaf (A := A) (n := (fs.length : Int) + 1) (by omega) (by omega) hxr.1 hxr.2 (by rw [el1]; exact g8) hlf (hT.2.2.2.2.2.1 x hxW) ?_
        refine ct_copyWay (A := A) hz hT.2.1 hT.2.2.1 (by omega) hAt' (by omega) (fun A' f' gs x' hz' hl1 hl2 hfr hxf hw' hfx hgl hky hnd hOt => ?_)
        rw [← hky] at hFk
        rw [← hgl]
        refine ct_out_leaf (A0 := A) hkey hz' hWW hnd hl2 hl1 hfr hxf hw' (by rw [hgl]; exact hfx) (by rw [hgl]; exact g9) (by omega) hOt hFk (fun B hB hlen => ?_)
        refine nm_r (h12c B hB.2.1) ?_
        exact hp1 ⟨w, hvl.1⟩ B _ f' g hB hlen
      | succ d =>
        have hHl : ct_Hl A (d + 1) fs x (A 11 3) := by
          refine ⟨g2, g3, g4, g5, fun q hq => ?_, ?_, fun e he => ?_⟩
          · have hq' := hpg.mem_iff.mpr (List.mem_append.mpr (Or.inl hq))
            exact ⟨(hT.2.2.2.1 q hq').1, (hT.2.2.2.1 q hq').2, hT.2.2.2.2.2.1 q hq'⟩
          · have := ct_Cx_fl fs (d + 1) x _ g2
            rw [g1, hT.2.2.2.2.2.2] at this
            rw [← this]; exact hWW.1
          · have := ct_Cx_fl fs (d + 1) x _ g2
            rw [g1, hT.2.2.2.2.2.2] at this
            have hm : e ∈ W := by rw [this]; simp [he]
            exact ⟨(hWW.2.1 e hm).1, (hWW.2.1 e hm).2.1⟩
        obtain ⟨ca, c, cb, hnx, hl3, hl4, hc4, hc0, hc1, h40, h41, hdn, hCL, hCR⟩ := ct_Hl_dn hHl g6
        have hka : ka.length ≤ 4 := by rw [g6] at g5; simp at g5; omega
        refine ct_lengthen_in (A := A) (n := (fs.length : Int) + 1) (x := x) (c := c) (i := (ka.length : Int)) (k := d + 1) (by omega) (by omega) hxr.1 hxr.2 (by omega) (by omega) (by rw [el1]; exact g8) (by rw [el1]; exact g9) h40 h41 hc4 hc0 hc1 ?_
        have h43 := ct_lengthen_43 (post := fun u => wpX_copyWay (fun u => wpX_takeOut (fun u => ∀ am : Nat → Int32, am = upd u.2.2.2.2.2.2.2.2.2.2.2.2.1 3 ((u.2.2.2.2.2.2.2.2.2.2.2.2.1 3 - 1).toInt8.toInt32) → post 1 (u.1, u.2.1, u.2.2.1, u.2.2.2.1, u.2.2.2.2.1, u.2.2.2.2.2.1, u.2.2.2.2.2.2.1, u.2.2.2.2.2.2.2.1, u.2.2.2.2.2.2.2.2.1, u.2.2.2.2.2.2.2.2.2.1, u.2.2.2.2.2.2.2.2.2.2.1, u.2.2.2.2.2.2.2.2.2.2.2.1, am, u.2.2.2.2.2.2.2.2.2.2.2.2.2.1, u.2.2.2.2.2.2.2.2.2.2.2.2.2.2.1, u.2.2.2.2.2.2.2.2.2.2.2.2.2.2.2.1, u.2.2.2.2.2.2.2.2.2.2.2.2.2.2.2.2)) u (ct_i key)) u) (A := A) (Dr := dw) (r := A 11 3) (by omega) d ((x, (ka, ca), ((key, w) :: kb, cb)) :: fs) c f g (by simp; omega) hdn ⟨g8, g9, g7⟩ (fun rs z kz e f' g' hAt2 hrs => by
          have hll : (rs ++ (x, (ka, ca), ((key, w) :: kb, cb)) :: fs).length ≤ 7 := by have := hAt2.1; omega
          refine ct_copyWay (A := A) hz hT.2.1 hT.2.2.1 (by omega) hAt2 hll (fun A' f'' gs x' hz' hl1 hl2 hfr hxf hw' hfx hgl hky hnd hOt => ?_)
          have hky2 : gs.map ct_ky = rs.map ct_ky ++ ct_ky (x, (ka, ca), ((key, w) :: kb, cb)) :: fs.map ct_ky := by rw [hky]; simp
          obtain ⟨gs1, fr, gs0, e1, e2, e3, e4⟩ := ct_map_cons gs _ hky2
          obtain ⟨p, ⟨ka', ca'⟩, kb', cb'⟩ := fr
          have e5 : ka' = ka ∧ kb' = (key, w) :: kb := by
            unfold ct_ky at e3
            simp only [Prod.mk.injEq] at e3
            exact e3
          obtain ⟨e5a, e5b⟩ := e5
          subst e5a e5b
          have hg1 : ∀ fr, fr ∈ gs1 → fr.2.2.1 = [] := by
            intro fr hfr'
            have : ct_ky fr ∈ rs.map ct_ky := by rw [← e2]; exact List.mem_map_of_mem hfr'
            obtain ⟨fr0, h0, h1⟩ := List.mem_map.mp this
            have := hrs fr0 h0
            have h2 := congrArg Prod.snd h1
            show fr.2.2.1 = []
            exact Eq.trans h2.symm this
          have hFk0 : ct_Fk key (gs0.map ct_ky) := by rw [e4]; exact hFk
          rw [← hgl] at hfx ⊢
          have hgx : g' (gs.length : Int) = (kz.length : Int) := by rw [hgl]; exact hAt2.2.2.2.2.2.2.2.2
          subst e1
          have hlo2 : ct_lo (gs1 ++ (p, (ka', ca'), ((key, w) :: kb, cb')) :: gs0) = 2 := by cases gs1 <;> rfl
          refine ct_out_up (A0 := A) hkey hz' hWW hnd hl2 (by rw [hlo2] at hl1; exact hl1) hfr hxf hw' hfx hgx (by omega) hOt hg1 hFk0 (fun B hB hlen => ?_)
          refine nm_r (h12c B hB.2.1) ?_
          exact hp1 ⟨w, hvl.1⟩ B _ f'' g' hB hlen)
        simp only [List.length_cons] at h43
        rw [show ((fs.length + 1 : Nat) : Int) = (fs.length : Int) + 1 by omega] at h43
        exact h43
    · -- not found
      obtain ⟨g1, g2, g3, g4, g5, g6, g7, g8, g9⟩ := hAt
      have hfl := ct_Cx_fl fs 0 x _ g2
      rw [g1, hT.2.2.2.2.2.2] at hfl
      have hfx0 : ct_fl (ct_nd A) 0 x = ka ++ kb := g6
      rw [hfx0] at hfl
      refine br_t rfl (hp0 (fun e he => ?_) _ f g)
      rw [hfl] at he
      simp only [List.mem_append] at he hcl hcr
      rcases he with h | ((h | h) | h)
      · have := hcl e (Or.inl h); omega
      · have := hcl e (Or.inr h); omega
      · have := hcr e (Or.inl h); omega
      · have := hcr e (Or.inr h); omega
end
section
/-! ===== 34: an object between calls ===== -/
theorem ct_R_cg {A B : Nat → Int → Int} {d : Nat} {r : Int} {C : List ct_KV} (h : ct_R A d r C) (hq : ∀ q, 0 ≤ r → q ∈ ct_pg (ct_nd A) d r → ct_nd B q = ct_nd A q ∧ B 4 (6 * q) = A 4 (6 * q)) : ct_R B d r C := by
  rcases h with h | ⟨h, t1, t2, t3, t4, t5, t6, t7⟩
  · exact Or.inl h
  · have hq' := fun q hm => hq q h hm
    obtain ⟨g1, g2, g3⟩ := ct_cg (H := ct_nd A) (H' := ct_nd B) d r (fun q hm => (hq' q hm).1)
    have hr := (hq' r (ct_pg_self _ _ _)).1
    refine Or.inr ⟨h, g3 t1, by rw [hr]; exact t2, by rw [hr]; exact t3, by rw [g1]; exact t4, by rw [g1]; exact t5, ?_, by rw [g2]; exact t7⟩
    rw [g1]
    intro q hm
    rw [(hq' q hm).2]
    exact t6 q hm
/-- a stable root -/
def ct_Sr (A : Nat → Int → Int) (d : Nat) (r : Int) : Prop := r = -2 ∨ ∃ C, ct_R A d r C ∧ ct_W C
theorem ct_R_len {A : Nat → Int → Int} {d : Nat} {r : Int} {C : List ct_KV} (h : ct_R A d r C) (hC : ct_W C) (hr : 0 ≤ r) : (ct_pg (ct_nd A) d r).length ≤ 12 ∧ ct_sw A d r ∧ ∀ q, q ∈ ct_pg (ct_nd A) d r → 0 ≤ q ∧ q < 100 := by
  rcases h with h | ⟨h, t1, t2, t3, t4, t5, t6, t7⟩
  · omega
  · have := ct_ct d r t1
    rw [t7] at this
    have hl := hC.2.2
    refine ⟨by omega, ct_sw_sh d r t1 (ct_nd_kc t2 t3) (by omega) (fun q hq => ⟨(t4 q hq).1, (t4 q hq).2, t6 q hq⟩), t4⟩
theorem ct_Sr_rt {A : Nat → Int → Int} {d : Nat} {r : Int} (h : ct_Sr A d r) : ct_rt A d r := by
  rcases h with h | ⟨C, h, hC⟩
  · exact Or.inl (by omega)
  · by_cases hr : 0 ≤ r
    · obtain ⟨a, b, c⟩ := ct_R_len h hC hr
      exact Or.inr ⟨b, by omega⟩
    · rcases h with h | h
      · exact Or.inl (by omega)
      · omega
def ct_SPl (A : Nat → Int → Int) (D : Nat → Nat) : List Int := ct_RPs A D 0 3 ++ ct_MPs A D 0 2
theorem ct_Sr_RP {A : Nat → Int → Int} {d : Nat} {r : Int} (h : ct_Sr A d r) : (if r < 0 then ([] : List Int) else ct_pg (ct_nd A) d r).length ≤ 12 ∧ ∀ q, q ∈ (if r < 0 then ([] : List Int) else ct_pg (ct_nd A) d r) → 0 ≤ q ∧ q < 100 := by
  by_cases hr : r < 0
  · rw [if_pos hr]; simp
  · rw [if_neg hr]
    rcases h with h | ⟨C, h, hC⟩
    · omega
    · obtain ⟨a, b, c⟩ := ct_R_len h hC (by omega)
      exact ⟨a, c⟩
theorem ct_St_mk {A : Nat → Int → Int} {D : Nat → Nat} (hr : ∀ k : Nat, k < 3 → ct_Sr A (D k) (A 11 k)) (hm : ∀ m : Nat, m < 2 → A 10 m = 0 ∨ (A 10 m = 1 ∧ ct_Sr A (D (4 + m)) (A 7 m))) : ct_St A D (ct_SPl A D) := by
  have hR : ∀ k : Nat, k < 3 → (ct_RP A D k).length ≤ 12 ∧ ∀ q, q ∈ ct_RP A D k → 0 ≤ q ∧ q < 100 := fun k hk => ct_Sr_RP (hr k hk)
  have hM : ∀ m : Nat, m < 2 → (ct_MP A D m).length ≤ 12 ∧ ∀ q, q ∈ ct_MP A D m → 0 ≤ q ∧ q < 100 := by
    intro m hm'
    unfold ct_MP
    rcases hm m hm' with h | ⟨h, h'⟩
    · rw [if_pos (Or.inl h)]; simp
    · have := ct_Sr_RP h'
      by_cases e : A 7 m < 0
      · rw [if_pos (Or.inr e)]; simp
      · rw [if_neg e] at this
        rw [if_neg (by omega)]
        exact this
  refine ⟨fun k hk => ct_Sr_rt (hr k hk), fun m hm' => ?_, fun q => ?_, ?_, fun q hq => ?_⟩
  · rcases hm m hm' with h | ⟨h, h'⟩
    · exact Or.inl h
    · exact Or.inr ⟨h, ct_Sr_rt h'⟩
  · unfold ct_SPl
    rw [List.mem_append]
  · have a0 := (hR 0 (by omega)).1
    have a1 := (hR 1 (by omega)).1
    have a2 := (hR 2 (by omega)).1
    have b0 := (hM 0 (by omega)).1
    have b1 := (hM 1 (by omega)).1
    have e : ct_SPl A D = (ct_RP A D 0 ++ (ct_RP A D 1 ++ (ct_RP A D 2 ++ []))) ++ (ct_MP A D 0 ++ (ct_MP A D 1 ++ [])) := rfl
    rw [e]
    simp only [List.length_append, List.length_nil]
    omega
  · simp only [ct_SPl, ct_RPs, ct_MPs, List.mem_append, List.not_mem_nil, or_false] at hq
    rcases hq with (h | h | h) | h | h
    · exact (hR 0 (by omega)).2 q h
    · exact (hR 1 (by omega)).2 q h
    · exact (hR 2 (by omega)).2 q h
    · exact (hM 0 (by omega)).2 q h
    · exact (hM 1 (by omega)).2 q h
/-- a reader -/
def ct_Rd (A : Nat → Int → Int) (d : Nat) (k : Int) (R : Option (List ct_KV)) : Prop :=
  match R with
  | none => A 11 k = -2
  | some C => ct_R A d (A 11 k) C ∧ ct_W C ∧ A 12 k = C.length ∧ 0 ≤ A 13 k ∧ A 13 k < 1000
theorem ct_Rd_Sr {A : Nat → Int → Int} {d : Nat} {k : Int} {R : Option (List ct_KV)} (h : ct_Rd A d k R) : ct_Sr A d (A 11 k) := by
  cases R with
  | none => exact Or.inl h
  | some C => exact Or.inr ⟨C, h.1, h.2.1⟩
/-- the object: writer's content W, committed content C, number N, readers R0 R1 -/
def ct_Ob (A : Nat → Int → Int) (W C : List ct_KV) (N : Int) (R0 R1 : Option (List ct_KV)) : Prop :=
  ∃ (D : Nat → Nat) (CT : List Int), ct_Wr A D (ct_SPl A D) CT W ∧ ct_ok A ∧
    (A 10 (ct_vm A) = 1 ∧ ct_R A (if ct_vm A = 0 then D 4 else D 5) (A 7 (ct_vm A)) C ∧ ct_W C ∧ A 8 (ct_vm A) = C.length ∧ A 9 (ct_vm A) = N ∧ ∀ q, q ∈ CT ↔ (0 ≤ A 7 (ct_vm A) ∧ q ∈ ct_pg (ct_nd A) (if ct_vm A = 0 then D 4 else D 5) (A 7 (ct_vm A)))) ∧
    (A 10 (1 - ct_vm A) = 0 ∨ (A 10 (1 - ct_vm A) = 1 ∧ ct_Sr A (if ct_vm A = 0 then D 5 else D 4) (A 7 (1 - ct_vm A)) ∧ A 9 (1 - ct_vm A) < N)) ∧
    ct_Rd A (D 0) 0 R0 ∧ ct_Rd A (D 1) 1 R1 ∧ A 11 2 = -2 ∧ N < 900
/-- from what the trees are, the stable part -/
theorem ct_mt {A : Nat → Int → Int} {D : Nat → Nat} {C : List ct_KV} {N : Int} (h1 : A 10 (ct_vm A) = 1) (h2 : ct_R A (if ct_vm A = 0 then D 4 else D 5) (A 7 (ct_vm A)) C) (h3 : ct_W C) (h4 : A 10 (1 - ct_vm A) = 0 ∨ (A 10 (1 - ct_vm A) = 1 ∧ ct_Sr A (if ct_vm A = 0 then D 5 else D 4) (A 7 (1 - ct_vm A)) ∧ A 9 (1 - ct_vm A) < N)) : ∀ m : Nat, m < 2 → A 10 m = 0 ∨ (A 10 m = 1 ∧ ct_Sr A (D (4 + m)) (A 7 m)) := by
  intro m hm
  have hv := ct_vm01 A
  have hvm : ct_vm A = 0 ∨ ct_vm A = 1 := by omega
  have hmm : m = 0 ∨ m = 1 := by omega
  rcases hvm with e | e <;> rcases hmm with e' | e' <;> subst e' <;> rw [e] at h1 h2 h4
  · exact Or.inr ⟨h1, Or.inr ⟨C, h2, h3⟩⟩
  · rcases h4 with h | ⟨h, h', _⟩
    · exact Or.inl h
    · exact Or.inr ⟨h, h'⟩
  · rcases h4 with h | ⟨h, h', _⟩
    · exact Or.inl h
    · exact Or.inr ⟨h, h'⟩
  · exact Or.inr ⟨h1, Or.inr ⟨C, h2, h3⟩⟩
theorem ct_CT_SP {A : Nat → Int → Int} {D : Nat → Nat} {q : Int} (h1 : A 10 (ct_vm A) = 1) (h : 0 ≤ A 7 (ct_vm A) ∧ q ∈ ct_pg (ct_nd A) (if ct_vm A = 0 then D 4 else D 5) (A 7 (ct_vm A))) : q ∈ ct_SPl A D := by
  have hv := ct_vm01 A
  have hvm : ct_vm A = 0 ∨ ct_vm A = 1 := by omega
  unfold ct_SPl
  refine List.mem_append.mpr (Or.inr ?_)
  simp only [ct_MPs, List.mem_append, List.not_mem_nil, or_false]
  rcases hvm with e | e <;> rw [e] at h h1
  · left
    unfold ct_MP
    rw [if_neg (by show ¬ (A 10 0 = 0 ∨ A 7 0 < 0); omega)]
    exact h.2
  · right
    unfold ct_MP
    rw [if_neg (by show ¬ (A 10 1 = 0 ∨ A 7 1 < 0); omega)]
    exact h.2
/-- an object whose pages are all settled -/
theorem ct_Ob_mk {A : Nat → Int → Int} {D : Nat → Nat} {W C : List ct_KV} {N : Int} {R0 R1 : Option (List ct_KV)} {dw : Nat} (h5 : ∀ q, 0 ≤ q → q < 100 → A 5 q = 0) (h5' : ∀ q, 0 ≤ A 5 q ∧ A 5 q ≤ 1) (hok : ct_ok A) (hw : ct_R A dw (A 11 3) W) (hWW : ct_W W) (h12 : A 12 3 = W.length) (hsub : ∀ q, 0 ≤ A 11 3 → q ∈ ct_pg (ct_nd A) dw (A 11 3) → 0 ≤ A 7 (ct_vm A) ∧ q ∈ ct_pg (ct_nd A) (if ct_vm A = 0 then D 4 else D 5) (A 7 (ct_vm A)))
    (h1 : A 10 (ct_vm A) = 1) (h2 : ct_R A (if ct_vm A = 0 then D 4 else D 5) (A 7 (ct_vm A)) C) (h3 : ct_W C) (h8 : A 8 (ct_vm A) = C.length) (h9 : A 9 (ct_vm A) = N) (h4 : A 10 (1 - ct_vm A) = 0 ∨ (A 10 (1 - ct_vm A) = 1 ∧ ct_Sr A (if ct_vm A = 0 then D 5 else D 4) (A 7 (1 - ct_vm A)) ∧ A 9 (1 - ct_vm A) < N)) (hr0 : ct_Rd A (D 0) 0 R0) (hr1 : ct_Rd A (D 1) 1 R1) (hr2 : A 11 2 = -2) (hN : N < 900) : ct_Ob A W C N R0 R1 := by
  have hSt : ct_St A D (ct_SPl A D) := ct_St_mk (fun k hk => by
    have : k = 0 ∨ k = 1 ∨ k = 2 := by omega
    rcases this with e | e | e <;> subst e
    · exact ct_Rd_Sr hr0
    · exact ct_Rd_Sr hr1
    · exact Or.inl hr2) (ct_mt h1 h2 h3 h4)
  refine ⟨D, if A 7 (ct_vm A) < 0 then [] else ct_pg (ct_nd A) (if ct_vm A = 0 then D 4 else D 5) (A 7 (ct_vm A)), ⟨⟨hSt, fun q hq => ?_, fun q hq => h5 q (hSt.2.2.2.2 q hq).1 (hSt.2.2.2.2 q hq).2, h5'⟩, hWW, h12, dw, hw, fun q h0 hq => ?_, fun q g0 g1 g2 => absurd (h5 q g0 g1) g2⟩, hok, ⟨h1, h2, h3, h8, h9, fun q => ?_⟩, h4, hr0, hr1, hr2, hN⟩
  · by_cases e : A 7 (ct_vm A) < 0
    · rw [if_pos e] at hq; simp at hq
    · rw [if_neg e] at hq
      exact ct_CT_SP h1 ⟨by omega, hq⟩
  · right
    have := hsub q h0 hq
    rw [if_neg (by omega)]
    exact this.2
  · by_cases e : A 7 (ct_vm A) < 0
    · rw [if_pos e]
      constructor
      · intro h; simp at h
      · intro h; omega
    · rw [if_neg e]
      exact ⟨fun h => ⟨by omega, h⟩, fun h => h.2⟩
end
section
/-! ===== 35: the methods on an object ===== -/
theorem ct_Sx_h5 {A : Nat → Int → Int} {W C : List ct_KV} {N : Int} {R0 R1 : Option (List ct_KV)} (h : ct_Ob A W C N R0 R1) : ∀ q, 0 ≤ A 5 q ∧ A 5 q ≤ 1 := by
  obtain ⟨D, CT, hw, _⟩ := h
  exact hw.1.2.2.2
theorem ct_SPl_eq {A B : Nat → Int → Int} {D : Nat → Nat} (h7 : B 7 = A 7) (h10 : B 10 = A 10) (h11 : ∀ k : Int, k ≠ 3 → B 11 k = A 11 k) (h : ∀ q, q ∈ ct_SPl A D → ct_nd B q = ct_nd A q) : ct_SPl B D = ct_SPl A D := by
  have hR : ∀ k : Nat, k < 3 → (∀ q, q ∈ ct_RP A D k → q ∈ ct_SPl A D) → ct_RP B D k = ct_RP A D k := by
    intro k hk hs
    unfold ct_RP
    rw [h11 k (by omega)]
    by_cases e : A 11 k < 0
    · rw [if_pos e, if_pos e]
    · rw [if_neg e, if_neg e]
      refine (ct_cg _ _ (fun q hq => h q (hs q ?_))).1
      unfold ct_RP
      rw [if_neg e]; exact hq
  have hM : ∀ m : Nat, (∀ q, q ∈ ct_MP A D m → q ∈ ct_SPl A D) → ct_MP B D m = ct_MP A D m := by
    intro m hs
    unfold ct_MP
    rw [h7, h10]
    by_cases e : A 10 m = 0 ∨ A 7 m < 0
    · rw [if_pos e, if_pos e]
    · rw [if_neg e, if_neg e]
      refine (ct_cg _ _ (fun q hq => h q (hs q ?_))).1
      unfold ct_MP
      rw [if_neg e]; exact hq
  have r0 := hR 0 (by omega) (fun q hq => by simp [ct_SPl, ct_RPs, hq])
  have r1 := hR 1 (by omega) (fun q hq => by simp [ct_SPl, ct_RPs, hq])
  have r2 := hR 2 (by omega) (fun q hq => by simp [ct_SPl, ct_RPs, hq])
  have m0 := hM 0 (fun q hq => by simp [ct_SPl, ct_MPs, hq])
  have m1 := hM 1 (fun q hq => by simp [ct_SPl, ct_MPs, hq])
  show (ct_RP B D 0 ++ (ct_RP B D 1 ++ (ct_RP B D 2 ++ []))) ++ (ct_MP B D 0 ++ (ct_MP B D 1 ++ [])) = (ct_RP A D 0 ++ (ct_RP A D 1 ++ (ct_RP A D 2 ++ []))) ++ (ct_MP A D 0 ++ (ct_MP A D 1 ++ []))
  rw [r0, r1, r2, m0, m1]
/-- after a change of the writer's content -/
theorem ct_Ob_res {A B : Nat → Int → Int} {D : Nat → Nat} {CT : List Int} {W' C : List ct_KV} {N : Int} {R0 R1 : Option (List ct_KV)} {s : Int} (hok : ct_ok A)
    (hc : A 10 (ct_vm A) = 1 ∧ ct_R A (if ct_vm A = 0 then D 4 else D 5) (A 7 (ct_vm A)) C ∧ ct_W C ∧ A 8 (ct_vm A) = C.length ∧ A 9 (ct_vm A) = N ∧ ∀ q, q ∈ CT ↔ (0 ≤ A 7 (ct_vm A) ∧ q ∈ ct_pg (ct_nd A) (if ct_vm A = 0 then D 4 else D 5) (A 7 (ct_vm A))))
    (ho : A 10 (1 - ct_vm A) = 0 ∨ (A 10 (1 - ct_vm A) = 1 ∧ ct_Sr A (if ct_vm A = 0 then D 5 else D 4) (A 7 (1 - ct_vm A)) ∧ A 9 (1 - ct_vm A) < N)) (hr0 : ct_Rd A (D 0) 0 R0) (hr1 : ct_Rd A (D 1) 1 R1) (hr2 : A 11 2 = -2) (hN : N < 900) (hres : ct_Res A D (ct_SPl A D) CT W' B) (hWW : ct_W W') (hs : s = W'.length) : ct_Ob (ct_st B 12 (ct_up (B 12) 3 s)) W' C N R0 R1 := by
  obtain ⟨hS, ⟨⟨o7, o8, o9, o10, o12, o13, o11⟩, osp⟩, dw, hR, hO, hF⟩ := hres
  have hvm : ct_vm (ct_st B 12 (ct_up (B 12) 3 s)) = ct_vm A := by
    show (if B 10 0 = 0 then 1 else if B 10 1 = 0 then 0 else if B 9 0 ≤ B 9 1 then 1 else 0) = _
    rw [o10, o9]; rfl
  have hspl : ct_SPl (ct_st B 12 (ct_up (B 12) 3 s)) D = ct_SPl A D := ct_SPl_eq (A := A) o7 o10 o11 (fun q hq => (osp q hq).1)
  have hv := ct_vm01 A
  -- the pages of stable roots
  have hRD : ∀ k : Nat, k < 3 → ∀ q, 0 ≤ A 11 k → q ∈ ct_pg (ct_nd A) (D k) (A 11 k) → q ∈ ct_SPl A D := by
    intro k hk q h0 hq
    have hm : q ∈ ct_RP A D k := by
      unfold ct_RP
      rw [if_neg (by omega)]; exact hq
    have : k = 0 ∨ k = 1 ∨ k = 2 := by omega
    rcases this with e | e | e <;> subst e <;> simp [ct_SPl, ct_RPs, hm]
  have hMD : ∀ m : Nat, m < 2 → A 10 m = 1 → ∀ q, 0 ≤ A 7 m → q ∈ ct_pg (ct_nd A) (D (4 + m)) (A 7 m) → q ∈ ct_SPl A D := by
    intro m hm h1 q h0 hq
    have hm' : q ∈ ct_MP A D m := by
      unfold ct_MP
      rw [if_neg (by omega)]; exact hq
    have : m = 0 ∨ m = 1 := by omega
    rcases this with e | e <;> subst e <;> simp [ct_SPl, ct_MPs, hm']
  have hRd : ∀ (k : Nat) (R : Option (List ct_KV)), k < 3 → ct_Rd A (D k) k R → ct_Rd (ct_st B 12 (ct_up (B 12) 3 s)) (D k) k R := by
    intro k R hk h
    cases R with
    | none =>
      show B 11 k = -2
      rw [o11 k (by omega)]; exact h
    | some X =>
      obtain ⟨a1, a2, a3, a4, a5⟩ := h
      refine ⟨?_, a2, ?_, ?_, ?_⟩
      · show ct_R B (D k) (B 11 k) X
        rw [o11 k (by omega)]
        exact ct_R_cg a1 (fun q h0 hq => osp q (hRD k hk q h0 hq))
      · show ct_up (B 12) 3 s k = X.length
        rw [ct_un (by omega), o12]; exact a3
      · show 0 ≤ B 13 k
        rw [o13]; exact a4
      · show B 13 k < 1000
        rw [o13]; exact a5
  have hCm : ∀ q, 0 ≤ A 7 (ct_vm A) → q ∈ ct_pg (ct_nd A) (if ct_vm A = 0 then D 4 else D 5) (A 7 (ct_vm A)) → q ∈ ct_SPl A D := fun q h0 hq => ct_CT_SP hc.1 ⟨h0, hq⟩
  have hCeq : ct_pg (ct_nd B) (if ct_vm A = 0 then D 4 else D 5) (A 7 (ct_vm A)) = ct_pg (ct_nd A) (if ct_vm A = 0 then D 4 else D 5) (A 7 (ct_vm A)) ∨ A 7 (ct_vm A) < 0 := by
    by_cases e : A 7 (ct_vm A) < 0
    · exact Or.inr e
    · exact Or.inl (ct_cg _ _ (fun q hq => (osp q (hCm q (by omega) hq)).1)).1
  refine ⟨D, CT, ?_, ?_, ?_, ?_, hRd 0 R0 (by omega) hr0, hRd 1 R1 (by omega) hr1, ?_, hN⟩
  · rw [hspl]
    refine ⟨hS, hWW, ?_, dw, hR, hO, hF⟩
    show ct_up (B 12) 3 s 3 = W'.length
    rw [ct_us]; exact hs
  · refine ⟨fun m => ?_, fun m => ?_⟩
    · show 0 ≤ B 10 m ∧ B 10 m ≤ 1
      rw [o10]; exact hok.1 m
    · show 0 ≤ B 9 m ∧ B 9 m < 1000
      rw [o9]; exact hok.2 m
  · rw [hvm]
    refine ⟨?_, ?_, hc.2.2.1, ?_, ?_, fun q => ?_⟩
    · show B 10 (ct_vm A) = 1
      rw [o10]; exact hc.1
    · show ct_R B _ (B 7 (ct_vm A)) C
      rw [o7]
      exact ct_R_cg hc.2.1 (fun q h0 hq => osp q (hCm q h0 hq))
    · show B 8 (ct_vm A) = C.length
      rw [o8]; exact hc.2.2.2.1
    · show B 9 (ct_vm A) = N
      rw [o9]; exact hc.2.2.2.2.1
    · rw [hc.2.2.2.2.2 q]
      show _ ↔ (0 ≤ B 7 (ct_vm A) ∧ q ∈ ct_pg (ct_nd B) (if ct_vm A = 0 then D 4 else D 5) (B 7 (ct_vm A)))
      rw [o7]
      rcases hCeq with e | e
      · rw [e]
      · constructor
        · intro h; omega
        · intro h; omega
  · rw [hvm]
    show B 10 (1 - ct_vm A) = 0 ∨ (B 10 (1 - ct_vm A) = 1 ∧ ct_Sr B _ (B 7 (1 - ct_vm A)) ∧ B 9 (1 - ct_vm A) < N)
    rw [o10, o7, o9]
    rcases ho with h | ⟨h, h', h''⟩
    · exact Or.inl h
    · refine Or.inr ⟨h, ?_, h''⟩
      rcases h' with e | ⟨X, e, e'⟩
      · exact Or.inl e
      · refine Or.inr ⟨X, ct_R_cg e (fun q h0 hq => osp q ?_), e'⟩
        have hvm2 : ct_vm A = 0 ∨ ct_vm A = 1 := by omega
        rcases hvm2 with ev | ev
        · rw [ev] at h h0 hq
          exact hMD 1 (by omega) h q h0 hq
        · rw [ev] at h h0 hq
          exact hMD 0 (by omega) h q h0 hq
  · show B 11 2 = -2
    rw [o11 2 (by omega)]; exact hr2
theorem ct_pu_so {k v : Int} : ∀ (W : List ct_KV), ct_so W → ct_so (ct_pu k v W) ∧ ∀ e, e ∈ ct_pu k v W → e = (k, v) ∨ e ∈ W := by
  intro W
  induction W with
  | nil => intro _; simp [ct_pu, ct_so]
  | cons a W ih =>
    intro h
    unfold ct_so at h
    rw [List.pairwise_cons] at h
    obtain ⟨i1, i2⟩ := ih h.2
    simp only [ct_pu]
    by_cases e : a.1 < k
    · rw [if_pos e]
      refine ⟨?_, fun x hx => ?_⟩
      · unfold ct_so
        rw [List.pairwise_cons]
        refine ⟨fun x hx => ?_, i1⟩
        rcases i2 x hx with h' | h'
        · rw [h']; exact e
        · exact h.1 x h'
      · rcases List.mem_cons.mp hx with h' | h'
        · exact Or.inr (by rw [h']; simp)
        · rcases i2 x h' with h'' | h''
          · exact Or.inl h''
          · exact Or.inr (by simp [h''])
    · rw [if_neg e]
      by_cases e' : a.1 = k
      · rw [if_pos e']
        refine ⟨?_, fun x hx => ?_⟩
        · unfold ct_so
          rw [List.pairwise_cons]
          exact ⟨fun x hx => by have := h.1 x hx; simp only; omega, h.2⟩
        · rcases List.mem_cons.mp hx with h' | h'
          · exact Or.inl h'
          · exact Or.inr (by simp [h'])
      · rw [if_neg e']
        refine ⟨?_, fun x hx => ?_⟩
        · unfold ct_so
          rw [List.pairwise_cons, List.pairwise_cons]
          refine ⟨fun x hx => ?_, h⟩
          rcases List.mem_cons.mp hx with h' | h'
          · rw [h']; simp only; omega
          · have := h.1 x h'; simp only; omega
        · rcases List.mem_cons.mp hx with h' | h'
          · exact Or.inl h'
          · exact Or.inr h'
theorem ct_er_so {k : Int} : ∀ (W : List ct_KV), ct_so W → ct_so (ct_er k W) ∧ ∀ e, e ∈ ct_er k W → e ∈ W := by
  intro W
  induction W with
  | nil => intro _; simp [ct_er, ct_so]
  | cons a W ih =>
    intro h
    unfold ct_so at h
    rw [List.pairwise_cons] at h
    obtain ⟨i1, i2⟩ := ih h.2
    simp only [ct_er]
    by_cases e : a.1 = k
    · rw [if_pos e]
      exact ⟨h.2, fun x hx => by simp [hx]⟩
    · rw [if_neg e]
      refine ⟨?_, fun x hx => ?_⟩
      · unfold ct_so
        rw [List.pairwise_cons]
        exact ⟨fun x hx => h.1 x (i2 x hx), i1⟩
      · rcases List.mem_cons.mp hx with h' | h'
        · rw [h']; simp
        · simp [i2 x h']
theorem ct_pu_W {k v : Int} {W : List ct_KV} (h : ct_W W) (hl : (ct_pu k v W).length ≤ 24) (hk : 0 ≤ k ∧ k < 100) (hv : 0 ≤ v ∧ v < 1048576) (hp : (k + v) % 2 = 0) : ct_W (ct_pu k v W) := by
  obtain ⟨i1, i2⟩ := ct_pu_so (k := k) (v := v) W h.1
  refine ⟨i1, fun e he => ?_, hl⟩
  rcases i2 e he with h' | h'
  · rw [h']; exact ⟨hk.1, hk.2, hv.1, hv.2, hp⟩
  · exact h.2.1 e h'
theorem ct_er_W {k : Int} {W : List ct_KV} (h : ct_W W) (hl : (ct_er k W).length ≤ 24) : ct_W (ct_er k W) := by
  obtain ⟨i1, i2⟩ := ct_er_so (k := k) W h.1
  exact ⟨i1, fun e he => h.2.1 e (i2 e he), hl⟩
/-- the answer of put, of has -/
def ct_hk (k : Int) (W : List ct_KV) : Prop := ∃ v, (k, v) ∈ W
theorem ct_hk_no {k : Int} {W : List ct_KV} (h : ∀ e, e ∈ W → e.1 ≠ k) : ¬ ct_hk k W := fun ⟨v, hv⟩ => h _ hv rfl
theorem ct_Op {post : Int32 → St1 → Prop} {A : Nat → Int → Int} {W C : List ct_KV} {N key v : Int} {R0 R1 : Option (List ct_KV)} (h : ct_Ob A W C N R0 R1) (hkey : 0 ≤ key ∧ key < 100) (hv : 0 ≤ v ∧ v < 1048576) (hpar : (key + v) % 2 = 0)
    (hp0 : ct_hk key W → ∀ B, ct_Ob B (ct_pu key v W) C N R0 R1 → (ct_pu key v W).length = W.length → post 0 (ct_lf B))
    (hp1 : ¬ ct_hk key W → W.length < 24 → ∀ B, ct_Ob B (ct_pu key v W) C N R0 R1 → (ct_pu key v W).length = W.length + 1 → post 1 (ct_lf B))
    (hp2 : ¬ ct_hk key W → ¬ W.length < 24 → ∀ B, ct_Ob B W C N R0 R1 → post (-2) (ct_lf B)) : wpX_put post (ct_lf A) (ct_i key) (ct_i v) := by
  have h' := h
  obtain ⟨D, CT, hw, hok, hc, ho, hr0, hr1, hr2, hN⟩ := h
  have hWW := hw.2.1
  have hl := hWW.2.2
  refine ct_put hw hkey (fun hk B n f g hres hlen => ?_) (fun hk hlt B n f g hres hlen => ?_) (fun hk hge n f g => ?_)
  · have hB12 : B 12 3 = W.length := by rw [hres.2.1.1.2.2.2.2.1]; exact hw.2.2.1
    have := ct_Ob_res (s := B 12 3) hok hc ho hr0 hr1 hr2 hN hres (ct_pu_W hWW (by omega) hkey hv hpar) (by rw [hlen]; exact hB12)
    rw [ct_up_self, ct_st_self] at this
    exact hp0 hk (ct_wy B n f g) this hlen
  · have hB12 : B 12 3 = W.length := by rw [hres.2.1.1.2.2.2.2.1]; exact hw.2.2.1
    have := ct_Ob_res (s := B 12 3 + 1) hok hc ho hr0 hr1 hr2 hN hres (ct_pu_W hWW (by omega) hkey hv hpar) (by rw [hlen, hB12]; omega)
    exact hp1 (ct_hk_no hk) hlt (ct_wy (ct_st B 12 (ct_up (B 12) 3 (B 12 3 + 1))) n f g) this hlen
  · exact hp2 (ct_hk_no hk) hge (ct_wy A n f g) h'
theorem ct_Oe {post : Int32 → St1 → Prop} {A : Nat → Int → Int} {W C : List ct_KV} {N key : Int} {R0 R1 : Option (List ct_KV)} (h : ct_Ob A W C N R0 R1) (hkey : 0 ≤ key ∧ key < 100)
    (hp0 : ¬ ct_hk key W → ∀ B, ct_Ob B W C N R0 R1 → post 0 (ct_lf B))
    (hp1 : ct_hk key W → ∀ B, ct_Ob B (ct_er key W) C N R0 R1 → (ct_er key W).length + 1 = W.length → post 1 (ct_lf B)) : wpX_erase post (ct_lf A) (ct_i key) := by
  have h' := h
  obtain ⟨D, CT, hw, hok, hc, ho, hr0, hr1, hr2, hN⟩ := h
  have hWW := hw.2.1
  have hl := hWW.2.2
  refine ct_erase hw hkey (fun hk n f g => ?_) (fun hk B n f g hres hlen => ?_)
  · exact hp0 (ct_hk_no hk) (ct_wy A n f g) h'
  · have hB12 : B 12 3 = W.length := by rw [hres.2.1.1.2.2.2.2.1]; exact hw.2.2.1
    have := ct_Ob_res (s := B 12 3 - 1) hok hc ho hr0 hr1 hr2 hN hres (ct_er_W hWW (by omega)) (by rw [hB12]; omega)
    exact hp1 hk (ct_wy (ct_st B 12 (ct_up (B 12) 3 (B 12 3 - 1))) n f g) this hlen
end
section
/-! ===== 36: commits, aborts, crashes, readers on an object ===== -/
/-- the two places for roots -/
def ct_Mf (A : Nat → Int → Int) (D : Nat → Nat) (C : List ct_KV) (N : Int) : Prop :=
  A 10 (ct_vm A) = 1 ∧ ct_R A (if ct_vm A = 0 then D 4 else D 5) (A 7 (ct_vm A)) C ∧ ct_W C ∧ A 8 (ct_vm A) = C.length ∧ A 9 (ct_vm A) = N ∧ (A 10 (1 - ct_vm A) = 0 ∨ (A 10 (1 - ct_vm A) = 1 ∧ ct_Sr A (if ct_vm A = 0 then D 5 else D 4) (A 7 (1 - ct_vm A)) ∧ A 9 (1 - ct_vm A) < N))
theorem ct_vm_wm1 {A : Nat → Int → Int} (h1 : A 10 (ct_vm A) = 1) : ct_vm (ct_wm A 1) = 1 - ct_vm A := by
  have hv := ct_vm01 A
  have hvm : ct_vm A = 0 ∨ ct_vm A = 1 := by omega
  show (if ct_up (A 10) (1 - ct_vm A) 1 0 = 0 then 1 else if ct_up (A 10) (1 - ct_vm A) 1 1 = 0 then 0 else if ct_up (A 9) (1 - ct_vm A) (A 9 (ct_vm A) + 1) 0 ≤ ct_up (A 9) (1 - ct_vm A) (A 9 (ct_vm A) + 1) 1 then 1 else 0) = 1 - ct_vm A
  rcases hvm with e | e <;> rw [e] at h1 ⊢
  · rw [show (1 : Int) - 0 = 1 from rfl, ct_us, ct_us, ct_un (by omega), ct_un (by omega), h1, if_neg (by omega), if_neg (by omega), if_pos (by omega)]
  · rw [show (1 : Int) - 1 = 0 from rfl, ct_us, ct_us, ct_un (by omega), ct_un (by omega), h1, if_neg (by omega), if_neg (by omega), if_neg (by omega)]
theorem ct_vm_wm0 {A : Nat → Int → Int} (h1 : A 10 (ct_vm A) = 1) : ct_vm (ct_wm A 0) = ct_vm A := by
  have hv := ct_vm01 A
  have hvm : ct_vm A = 0 ∨ ct_vm A = 1 := by omega
  show (if ct_up (A 10) (1 - ct_vm A) 0 0 = 0 then 1 else if ct_up (A 10) (1 - ct_vm A) 0 1 = 0 then 0 else if ct_up (A 9) (1 - ct_vm A) (A 9 (ct_vm A) + 1) 0 ≤ ct_up (A 9) (1 - ct_vm A) (A 9 (ct_vm A) + 1) 1 then 1 else 0) = ct_vm A
  rcases hvm with e | e <;> rw [e] at h1 ⊢
  · rw [show (1 : Int) - 0 = 1 from rfl, ct_un (j := 0) (z := 1) (by omega), h1, if_neg (by omega), if_pos ct_us]
  · rw [show (1 : Int) - 1 = 0 from rfl, if_pos ct_us]
theorem ct_Mf_wm1 {A : Nat → Int → Int} {D : Nat → Nat} {C W : List ct_KV} {N : Int} {dw : Nat} (h : ct_Mf A D C N) (hR : ct_R A dw (A 11 3) W) (hW : ct_W W) (h12 : A 12 3 = W.length) : ∃ D' : Nat → Nat, D' 0 = D 0 ∧ D' 1 = D 1 ∧ ct_Mf (ct_wm A 1) D' W (N + 1) ∧ (if ct_vm (ct_wm A 1) = 0 then D' 4 else D' 5) = dw ∧ ct_wm A 1 7 (ct_vm (ct_wm A 1)) = A 11 3 := by
  obtain ⟨h1, h2, h3, h8, h9, h4⟩ := h
  have hv := ct_vm01 A
  have hvm : ct_vm A = 0 ∨ ct_vm A = 1 := by omega
  have e := ct_vm_wm1 h1
  have b7 : ct_wm A 1 7 = ct_up (A 7) (1 - ct_vm A) (A 11 3) := rfl
  have b8 : ct_wm A 1 8 = ct_up (A 8) (1 - ct_vm A) (A 12 3) := rfl
  have b9 : ct_wm A 1 9 = ct_up (A 9) (1 - ct_vm A) (A 9 (ct_vm A) + 1) := rfl
  have b10 : ct_wm A 1 10 = ct_up (A 10) (1 - ct_vm A) 1 := rfl
  refine ⟨fun k => if k = (if ct_vm A = 0 then 5 else 4) then dw else D k, ?_, ?_, ?_, ?_, by rw [e, b7, ct_us]⟩
  · rcases hvm with ev | ev <;> rw [ev] <;> rfl
  · rcases hvm with ev | ev <;> rw [ev] <;> rfl
  · unfold ct_Mf
    rw [e, b7, b8, b9, b10, ct_us, ct_us, ct_us, ct_us, show 1 - (1 - ct_vm A) = ct_vm A by omega, ct_un (by omega), ct_un (by omega), ct_un (by omega), h9]
    have ed : (if 1 - ct_vm A = 0 then (fun k => if k = (if ct_vm A = 0 then 5 else 4) then dw else D k) 4 else (fun k => if k = (if ct_vm A = 0 then 5 else 4) then dw else D k) 5) = dw := by
      rcases hvm with ev | ev <;> rw [ev] <;> rfl
    have ed2 : (if 1 - ct_vm A = 0 then (fun k => if k = (if ct_vm A = 0 then 5 else 4) then dw else D k) 5 else (fun k => if k = (if ct_vm A = 0 then 5 else 4) then dw else D k) 4) = (if ct_vm A = 0 then D 4 else D 5) := by
      rcases hvm with ev | ev <;> rw [ev] <;> rfl
    rw [ed, ed2]
    exact ⟨rfl, hR, hW, h12, rfl, Or.inr ⟨h1, Or.inr ⟨C, h2, h3⟩, by omega⟩⟩
  · rw [e]
    rcases hvm with ev | ev <;> rw [ev] <;> rfl
theorem ct_Mf_wm0 {A : Nat → Int → Int} {D : Nat → Nat} {C : List ct_KV} {N : Int} (h : ct_Mf A D C N) : ct_Mf (ct_wm A 0) D C N := by
  obtain ⟨h1, h2, h3, h8, h9, h4⟩ := h
  have hv := ct_vm01 A
  have e := ct_vm_wm0 h1
  have b7 : ct_wm A 0 7 = ct_up (A 7) (1 - ct_vm A) (A 11 3) := rfl
  have b8 : ct_wm A 0 8 = ct_up (A 8) (1 - ct_vm A) (A 12 3) := rfl
  have b9 : ct_wm A 0 9 = ct_up (A 9) (1 - ct_vm A) (A 9 (ct_vm A) + 1) := rfl
  have b10 : ct_wm A 0 10 = ct_up (A 10) (1 - ct_vm A) 0 := rfl
  unfold ct_Mf
  rw [e, b7, b8, b9, b10, ct_un (by omega), ct_un (by omega), ct_un (by omega), ct_un (by omega)]
  exact ⟨h1, h2, h3, h8, h9, Or.inl ct_us⟩
theorem ct_Ob_Mf {A : Nat → Int → Int} {W C : List ct_KV} {N : Int} {R0 R1 : Option (List ct_KV)} (h : ct_Ob A W C N R0 R1) : ∃ (D : Nat → Nat) (dw : Nat), ct_Mf A D C N ∧ ct_R A dw (A 11 3) W ∧ ct_W W ∧ A 12 3 = W.length ∧ ct_ok A ∧ ct_Rd A (D 0) 0 R0 ∧ ct_Rd A (D 1) 1 R1 ∧ A 11 2 = -2 ∧ N < 900 ∧ ∀ q, 0 ≤ A 5 q ∧ A 5 q ≤ 1 := by
  obtain ⟨D, CT, hw, hok, hc, ho, hr0, hr1, hr2, hN⟩ := h
  obtain ⟨hS, hWW, h12, dw, hR, _, _⟩ := hw
  exact ⟨D, dw, ⟨hc.1, hc.2.1, hc.2.2.1, hc.2.2.2.1, hc.2.2.2.2.1, ho⟩, hR, hWW, h12, hok, hr0, hr1, hr2, hN, hS.2.2.2⟩
theorem ct_fill_5 {f : Int → Int} (h : ∀ q, 0 ≤ f q ∧ f q ≤ 1) : (∀ q, 0 ≤ q → q < 100 → ct_fill f 100 0 q = 0) ∧ (∀ q, 0 ≤ ct_fill f 100 0 q ∧ ct_fill f 100 0 q ≤ 1) := by
  refine ⟨fun q h0 h1 => if_pos ⟨h0, h1⟩, fun q => ?_⟩
  unfold ct_fill
  have := h q
  split <;> omega
/-- the writer loaded -/
theorem ct_Ob_ld {A : Nat → Int → Int} {D : Nat → Nat} {C : List ct_KV} {N : Int} {R0 R1 : Option (List ct_KV)} (h : ct_Mf A D C N) (hok : ct_ok A) (hr0 : ct_Rd A (D 0) 0 R0) (hr1 : ct_Rd A (D 1) 1 R1) (hr2 : A 11 2 = -2) (hN : N < 900) (h5 : ∀ q, 0 ≤ A 5 q ∧ A 5 q ≤ 1) : ct_Ob (ct_ld A) C C N R0 R1 := by
  obtain ⟨h1, h2, h3, h8, h9, h4⟩ := h
  obtain ⟨k1, k2⟩ := ct_fill_5 h5
  have e11 : ct_ld A 11 3 = A 7 (ct_vm A) := (show ct_up (A 11) 3 (A 7 (ct_vm A)) 3 = A 7 (ct_vm A) from ct_us)
  have e12 : ct_ld A 12 3 = A 8 (ct_vm A) := (show ct_up (A 12) 3 (A 8 (ct_vm A)) 3 = A 8 (ct_vm A) from ct_us)
  have hrd : ∀ (k : Int) (d : Nat) (R : Option (List ct_KV)), k ≠ 3 → ct_Rd A d k R → ct_Rd (ct_ld A) d k R := by
    intro k d R hk h
    have x11 : ct_ld A 11 k = A 11 k := (show ct_up (A 11) 3 (A 7 (ct_vm A)) k = A 11 k from ct_un hk)
    have x12 : ct_ld A 12 k = A 12 k := (show ct_up (A 12) 3 (A 8 (ct_vm A)) k = A 12 k from ct_un hk)
    cases R with
    | none => show ct_ld A 11 k = -2; rw [x11]; exact h
    | some X =>
      obtain ⟨a1, a2, a3, a4, a5⟩ := h
      refine ⟨?_, a2, by rw [x12]; exact a3, a4, a5⟩
      rw [x11]; exact a1
  exact ct_Ob_mk (A := ct_ld A) (D := D) (dw := if ct_vm A = 0 then D 4 else D 5) k1 k2 hok (by rw [e11]; exact h2) h3 (by rw [e12]; exact h8) (fun q h0 hq => by rw [e11] at h0 hq; exact ⟨h0, hq⟩) h1 h2 h3 h8 h9 h4 (hrd 0 _ R0 (by omega) hr0) (hrd 1 _ R1 (by omega) hr1) (show ct_up (A 11) 3 (A 7 (ct_vm A)) 2 = -2 by rw [ct_un (by omega)]; exact hr2) hN
theorem ct_Onum {post : Int32 → Prop} {A : Nat → Int → Int} {W C : List ct_KV} {N : Int} {R0 R1 : Option (List ct_KV)} (h : ct_Ob A W C N R0 R1) (hp : post (ct_i N)) : wpX_number post (ct_lf A) := by
  obtain ⟨D, dw, hM, hR, hW, h12, hok, hr0, hr1, hr2, hN, h5⟩ := ct_Ob_Mf h
  refine ct_number hok ?_
  rw [hM.2.2.2.2.1]; exact hp
theorem ct_Oabort {post : Int32 → St1 → Prop} {A : Nat → Int → Int} {W C : List ct_KV} {N : Int} {R0 R1 : Option (List ct_KV)} (h : ct_Ob A W C N R0 R1) (hp : ∀ B, ct_Ob B C C N R0 R1 → post (ct_i N) (ct_lf B)) : wpX_abort post (ct_lf A) := by
  obtain ⟨D, dw, hM, hR, hW, h12, hok, hr0, hr1, hr2, hN, h5⟩ := ct_Ob_Mf h
  refine ct_abort hok ?_
  rw [hM.2.2.2.2.1]
  exact hp _ (ct_Ob_ld hM hok hr0 hr1 hr2 hN h5)
theorem ct_Ocommit {post : Int32 → St1 → Prop} {A : Nat → Int → Int} {W C : List ct_KV} {N : Int} {R0 R1 : Option (List ct_KV)} (h : ct_Ob A W C N R0 R1) (hN1 : N + 1 < 900) (hp : ∀ B, ct_Ob B W W (N + 1) R0 R1 → post (ct_i (N + 1)) (ct_lf B)) : wpX_commit post (ct_lf A) := by
  obtain ⟨D, dw, hM, hR, hW, h12, hok, hr0, hr1, hr2, hN, h5⟩ := ct_Ob_Mf h
  obtain ⟨D', d0, d1, hM', ed, e7⟩ := ct_Mf_wm1 hM hR hW h12
  have h9 : A 9 (ct_vm A) < 999 := by rw [hM.2.2.2.2.1]; omega
  obtain ⟨k1, k2⟩ := ct_fill_5 h5
  refine ct_commit hok h9 ?_
  rw [hM'.2.2.2.2.1]
  have hok' := ct_wm_ok (A := A) (w := 1) (Or.inr rfl) hok h9
  have hvm : ct_vm (ct_cmt A) = ct_vm (ct_wm A 1) := rfl
  have hrd : ∀ (k : Int) (d : Nat) (R : Option (List ct_KV)), ct_Rd A d k R → ct_Rd (ct_cmt A) d k R := by
    intro k d R h
    cases R with
    | none => exact h
    | some X => exact h
  exact hp _ (ct_Ob_mk (A := ct_cmt A) (D := D') (dw := dw) k1 k2 hok' hR hW h12 (fun q h0 hq => by
    rw [hvm, ed]
    have e7' : ct_cmt A 7 (ct_vm (ct_wm A 1)) = A 11 3 := e7
    rw [e7']
    exact ⟨h0, hq⟩) hM'.1 hM'.2.1 hW hM'.2.2.2.1 hM'.2.2.2.2.1 hM'.2.2.2.2.2 (by rw [d0]; exact hrd 0 _ R0 hr0) (by rw [d1]; exact hrd 1 _ R1 hr1) hr2 hN1)
theorem ct_cls_Ob {A : Nat → Int → Int} {D : Nat → Nat} {C : List ct_KV} {N : Int} (h : ct_Mf A D C N) (hok : ct_ok A) (hN : N < 900) (h5 : ∀ q, 0 ≤ A 5 q ∧ A 5 q ≤ 1) : ct_Ob (ct_cls A) C C N none none := by
  have f : ∀ k : Int, 0 ≤ k → k < 3 → ct_st A 11 (ct_fill (A 11) 3 (-2)) 11 k = -2 := fun k h0 h1 => if_pos ⟨h0, h1⟩
  exact ct_Ob_ld (A := ct_st A 11 (ct_fill (A 11) 3 (-2))) (D := D) h hok (f 0 (by omega) (by omega)) (f 1 (by omega) (by omega)) (f 2 (by omega) (by omega)) hN h5
theorem ct_Ocrash0 {post : Int32 → St1 → Prop} {A : Nat → Int → Int} {W C : List ct_KV} {N : Int} {R0 R1 : Option (List ct_KV)} (h : ct_Ob A W C N R0 R1) (hp : ∀ B, ct_Ob B C C N none none → post (ct_i N) (ct_lf B)) : wpX_crash post (ct_lf A) 0 := by
  obtain ⟨D, dw, hM, hR, hW, h12, hok, hr0, hr1, hr2, hN, h5⟩ := ct_Ob_Mf h
  refine ct_crash0 hok ?_
  rw [hM.2.2.2.2.1]
  exact hp _ (ct_cls_Ob hM hok hN h5)
theorem ct_Ocrash1 {post : Int32 → St1 → Prop} {A : Nat → Int → Int} {W C : List ct_KV} {N : Int} {R0 R1 : Option (List ct_KV)} (h : ct_Ob A W C N R0 R1) (hN1 : N + 1 < 900) (hp : ∀ B, ct_Ob B W W (N + 1) none none → post (ct_i (N + 1)) (ct_lf B)) : wpX_crash post (ct_lf A) 1 := by
  obtain ⟨D, dw, hM, hR, hW, h12, hok, hr0, hr1, hr2, hN, h5⟩ := ct_Ob_Mf h
  obtain ⟨D', d0, d1, hM', ed, e7⟩ := ct_Mf_wm1 hM hR hW h12
  have h9 : A 9 (ct_vm A) < 999 := by rw [hM.2.2.2.2.1]; omega
  refine ct_crash1 hok h9 ?_
  rw [hM'.2.2.2.2.1]
  exact hp _ (ct_cls_Ob (A := ct_wm A 1) hM' (ct_wm_ok (Or.inr rfl) hok h9) hN1 h5)
theorem ct_Ocrash2 {post : Int32 → St1 → Prop} {A : Nat → Int → Int} {W C : List ct_KV} {N : Int} {R0 R1 : Option (List ct_KV)} (h : ct_Ob A W C N R0 R1) (hp : ∀ B, ct_Ob B C C N none none → post (ct_i N) (ct_lf B)) : wpX_crash post (ct_lf A) 2 := by
  obtain ⟨D, dw, hM, hR, hW, h12, hok, hr0, hr1, hr2, hN, h5⟩ := ct_Ob_Mf h
  have hM' := ct_Mf_wm0 hM
  have h9 : A 9 (ct_vm A) < 999 := by rw [hM.2.2.2.2.1]; omega
  refine ct_crash2 hok h9 ?_
  rw [hM'.2.2.2.2.1]
  exact hp _ (ct_cls_Ob (A := ct_wm A 0) hM' (ct_wm_ok (Or.inl rfl) hok h9) hN h5)
end
section
/-! ===== 37: readers, all, alike, the new object ===== -/
theorem ct_Ob_mk2 {A : Nat → Int → Int} {D : Nat → Nat} {W C : List ct_KV} {N : Int} {R0 R1 : Option (List ct_KV)} {dw : Nat} (h5' : ∀ q, 0 ≤ A 5 q ∧ A 5 q ≤ 1) (hsp : ∀ q, q ∈ ct_SPl A D → A 5 q = 0) (hok : ct_ok A) (hw : ct_R A dw (A 11 3) W) (hWW : ct_W W) (h12 : A 12 3 = W.length) (hO : ∀ q, 0 ≤ A 11 3 → q ∈ ct_pg (ct_nd A) dw (A 11 3) → A 5 q = 1 ∨ (0 ≤ A 7 (ct_vm A) ∧ q ∈ ct_pg (ct_nd A) (if ct_vm A = 0 then D 4 else D 5) (A 7 (ct_vm A)))) (hF : ∀ q, 0 ≤ q → q < 100 → A 5 q ≠ 0 → 0 ≤ A 11 3 ∧ q ∈ ct_pg (ct_nd A) dw (A 11 3)) (hM : ct_Mf A D C N) (hr0 : ct_Rd A (D 0) 0 R0) (hr1 : ct_Rd A (D 1) 1 R1) (hr2 : A 11 2 = -2) (hN : N < 900) : ct_Ob A W C N R0 R1 := by
  obtain ⟨h1, h2, h3, h8, h9, h4⟩ := hM
  have hSt : ct_St A D (ct_SPl A D) := ct_St_mk (fun k hk => by
    have : k = 0 ∨ k = 1 ∨ k = 2 := by omega
    rcases this with e | e | e <;> subst e
    · exact ct_Rd_Sr hr0
    · exact ct_Rd_Sr hr1
    · exact Or.inl hr2) (ct_mt h1 h2 h3 h4)
  refine ⟨D, if A 7 (ct_vm A) < 0 then [] else ct_pg (ct_nd A) (if ct_vm A = 0 then D 4 else D 5) (A 7 (ct_vm A)), ⟨⟨hSt, fun q hq => ?_, hsp, h5'⟩, hWW, h12, dw, hw, fun q h0 hq => ?_, hF⟩, hok, ⟨h1, h2, h3, h8, h9, fun q => ?_⟩, h4, hr0, hr1, hr2, hN⟩
  · by_cases e : A 7 (ct_vm A) < 0
    · rw [if_pos e] at hq; simp at hq
    · rw [if_neg e] at hq
      exact ct_CT_SP h1 ⟨by omega, hq⟩
  · rcases hO q h0 hq with h | h
    · exact Or.inl h
    · right
      rw [if_neg (by omega)]
      exact h.2
  · by_cases e : A 7 (ct_vm A) < 0
    · rw [if_pos e]
      constructor
      · intro h; simp at h
      · intro h; omega
    · rw [if_neg e]
      exact ⟨fun h => ⟨by omega, h⟩, fun h => h.2⟩
/-- a reader changed: closed, or opened at the committed tree -/
theorem ct_Ob_rd {A : Nat → Int → Int} {W C : List ct_KV} {N : Int} {R0 R1 : Option (List ct_KV)} {k : Nat} {r z n : Int} {X : Option (List ct_KV)} (h : ct_Ob A W C N R0 R1) (hk : k < 2) (hX : (r = -2 ∧ X = none) ∨ (r = A 7 (ct_vm A) ∧ X = some C ∧ z = A 8 (ct_vm A) ∧ 0 ≤ n ∧ n < 1000)) :
    ct_Ob (ct_st (ct_st (ct_st A 11 (ct_up (A 11) k r)) 12 (ct_up (A 12) k z)) 13 (ct_up (A 13) k n)) W C N (if k = 0 then X else R0) (if k = 1 then X else R1) := by
  obtain ⟨D, CT, hw, hok, hc, ho, hr0, hr1, hr2, hN⟩ := h
  obtain ⟨hS, hWW, h12, dw, hR, hO, hF⟩ := hw
  have hv := ct_vm01 A
  have e3 : ct_up (A 11) k r 3 = A 11 3 := ct_un (by omega)
  have e3' : ct_up (A 12) k z 3 = A 12 3 := ct_un (by omega)
  have hold : ∀ q, q ∈ ct_SPl A D → A 5 q = 0 := hS.2.2.1
  have hCq : ∀ q, 0 ≤ A 7 (ct_vm A) → q ∈ ct_pg (ct_nd A) (if ct_vm A = 0 then D 4 else D 5) (A 7 (ct_vm A)) → A 5 q = 0 := fun q h0 hq => hold q (ct_CT_SP hc.1 ⟨h0, hq⟩)
  have hk2 : k = 0 ∨ k = 1 := by omega
  have hRd : ∀ (j : Nat) (R : Option (List ct_KV)) (d : Nat), j ≠ k → ct_Rd A d j R → ct_Rd (ct_st (ct_st (ct_st A 11 (ct_up (A 11) k r)) 12 (ct_up (A 12) k z)) 13 (ct_up (A 13) k n)) d j R := by
    intro j R d hj h
    have x1 : ct_up (A 11) k r j = A 11 j := ct_un (by omega)
    have x2 : ct_up (A 12) k z j = A 12 j := ct_un (by omega)
    have x3 : ct_up (A 13) k n j = A 13 j := ct_un (by omega)
    cases R with
    | none => show ct_up (A 11) k r j = -2; rw [x1]; exact h
    | some Y =>
      obtain ⟨a1, a2, a3, a4, a5⟩ := h
      refine ⟨?_, a2, ?_, ?_, ?_⟩
      · show ct_R A d (ct_up (A 11) k r j) Y
        rw [x1]; exact a1
      · show ct_up (A 12) k z j = Y.length
        rw [x2]; exact a3
      · show 0 ≤ ct_up (A 13) k n j
        rw [x3]; exact a4
      · show ct_up (A 13) k n j < 1000
        rw [x3]; exact a5
  have hRk : ct_Rd (ct_st (ct_st (ct_st A 11 (ct_up (A 11) k r)) 12 (ct_up (A 12) k z)) 13 (ct_up (A 13) k n)) (if ct_vm A = 0 then D 4 else D 5) k X := by
    rcases hX with ⟨e1, e2⟩ | ⟨e1, e2, e3, e4, e5⟩
    · rw [e2]
      show ct_up (A 11) k r k = -2
      rw [ct_us, e1]
    · rw [e2]
      refine ⟨?_, hc.2.2.1, ?_, ?_, ?_⟩
      · show ct_R A _ (ct_up (A 11) k r k) C
        rw [ct_us, e1]; exact hc.2.1
      · show ct_up (A 12) k z k = C.length
        rw [ct_us, e3]; exact hc.2.2.2.1
      · show 0 ≤ ct_up (A 13) k n k
        rw [ct_us]; exact e4
      · show ct_up (A 13) k n k < 1000
        rw [ct_us]; exact e5
  -- the pages of the readers
  have hRPk : ∀ q, q ∈ (if ct_up (A 11) k r k < 0 then ([] : List Int) else ct_pg (ct_nd A) (if ct_vm A = 0 then D 4 else D 5) (ct_up (A 11) k r k)) → A 5 q = 0 := by
    intro q hq
    rw [ct_us] at hq
    by_cases e : r < 0
    · rw [if_pos e] at hq; simp at hq
    · rw [if_neg e] at hq
      rcases hX with ⟨e1, e2⟩ | ⟨e1, e2, _⟩
      · omega
      · rw [e1] at hq e
        exact hCq q (by omega) hq
  have hRPj : ∀ (j : Nat), j < 3 → j ≠ k → ∀ q, q ∈ (if ct_up (A 11) k r j < 0 then ([] : List Int) else ct_pg (ct_nd A) (D j) (ct_up (A 11) k r j)) → A 5 q = 0 := by
    intro j hj hjk q hq
    rw [ct_un (by omega)] at hq
    refine hold q ?_
    have hm : q ∈ ct_RP A D j := hq
    have : j = 0 ∨ j = 1 ∨ j = 2 := by omega
    rcases this with e | e | e <;> subst e <;> simp [ct_SPl, ct_RPs, hm]
  have hMP : ∀ (m : Nat), m < 2 → ∀ q, q ∈ ct_MP A D m → A 5 q = 0 := by
    intro m hm q hq
    refine hold q ?_
    have : m = 0 ∨ m = 1 := by omega
    rcases this with e | e <;> subst e <;> simp [ct_SPl, ct_MPs, hq]
  have hM : ct_Mf A D C N := ⟨hc.1, hc.2.1, hc.2.2.1, hc.2.2.2.1, hc.2.2.2.2.1, ho⟩
  have hO' : ∀ q, 0 ≤ A 11 3 → q ∈ ct_pg (ct_nd A) dw (A 11 3) → A 5 q = 1 ∨ (0 ≤ A 7 (ct_vm A) ∧ q ∈ ct_pg (ct_nd A) (if ct_vm A = 0 then D 4 else D 5) (A 7 (ct_vm A))) := by
    intro q h0 hq
    rcases hO q h0 hq with h | h
    · exact Or.inl h
    · exact Or.inr ((hc.2.2.2.2.2 q).mp h)
  rcases hk2 with e | e <;> subst e
  · refine ct_Ob_mk2 (A := ct_st (ct_st (ct_st A 11 (ct_up (A 11) (0 : Nat) r)) 12 (ct_up (A 12) (0 : Nat) z)) 13 (ct_up (A 13) (0 : Nat) n)) (D := fun j => if j = 0 then (if ct_vm A = 0 then D 4 else D 5) else D j) (dw := dw) hS.2.2.2 (fun q hq => ?_) hok ?_ hWW ?_ ?_ ?_ hM hRk (hRd 1 R1 (D 1) (by omega) hr1) ?_ hN
    · show A 5 q = 0
      have hq' : q ∈ ((if ct_up (A 11) (0 : Nat) r (0 : Nat) < 0 then ([] : List Int) else ct_pg (ct_nd A) (if ct_vm A = 0 then D 4 else D 5) (ct_up (A 11) (0 : Nat) r (0 : Nat))) ++ ((if ct_up (A 11) (0 : Nat) r (1 : Nat) < 0 then ([] : List Int) else ct_pg (ct_nd A) (D 1) (ct_up (A 11) (0 : Nat) r (1 : Nat))) ++ ((if ct_up (A 11) (0 : Nat) r (2 : Nat) < 0 then ([] : List Int) else ct_pg (ct_nd A) (D 2) (ct_up (A 11) (0 : Nat) r (2 : Nat))) ++ []))) ++ (ct_MP A D 0 ++ (ct_MP A D 1 ++ [])) := hq
      simp only [List.mem_append, List.not_mem_nil, or_false] at hq'
      rcases hq' with (h | h | h) | h | h
      · exact hRPk q h
      · exact hRPj 1 (by omega) (by omega) q h
      · exact hRPj 2 (by omega) (by omega) q h
      · exact hMP 0 (by omega) q h
      · exact hMP 1 (by omega) q h
    · show ct_R A dw (ct_up (A 11) (0 : Nat) r 3) W
      rw [e3]; exact hR
    · show ct_up (A 12) (0 : Nat) z 3 = W.length
      rw [e3']; exact h12
    · show ∀ q, 0 ≤ ct_up (A 11) (0 : Nat) r 3 → q ∈ ct_pg (ct_nd A) dw (ct_up (A 11) (0 : Nat) r 3) → _
      rw [e3]; exact hO'
    · show ∀ q, 0 ≤ q → q < 100 → A 5 q ≠ 0 → 0 ≤ ct_up (A 11) (0 : Nat) r 3 ∧ q ∈ ct_pg (ct_nd A) dw (ct_up (A 11) (0 : Nat) r 3)
      rw [e3]; exact hF
    · show ct_up (A 11) (0 : Nat) r 2 = -2
      rw [ct_un (by omega)]; exact hr2
  · refine ct_Ob_mk2 (A := ct_st (ct_st (ct_st A 11 (ct_up (A 11) (1 : Nat) r)) 12 (ct_up (A 12) (1 : Nat) z)) 13 (ct_up (A 13) (1 : Nat) n)) (D := fun j => if j = 1 then (if ct_vm A = 0 then D 4 else D 5) else D j) (dw := dw) hS.2.2.2 (fun q hq => ?_) hok ?_ hWW ?_ ?_ ?_ hM (hRd 0 R0 (D 0) (by omega) hr0) hRk ?_ hN
    · show A 5 q = 0
      have hq' : q ∈ ((if ct_up (A 11) (1 : Nat) r (0 : Nat) < 0 then ([] : List Int) else ct_pg (ct_nd A) (D 0) (ct_up (A 11) (1 : Nat) r (0 : Nat))) ++ ((if ct_up (A 11) (1 : Nat) r (1 : Nat) < 0 then ([] : List Int) else ct_pg (ct_nd A) (if ct_vm A = 0 then D 4 else D 5) (ct_up (A 11) (1 : Nat) r (1 : Nat))) ++ ((if ct_up (A 11) (1 : Nat) r (2 : Nat) < 0 then ([] : List Int) else ct_pg (ct_nd A) (D 2) (ct_up (A 11) (1 : Nat) r (2 : Nat))) ++ []))) ++ (ct_MP A D 0 ++ (ct_MP A D 1 ++ [])) := hq
      simp only [List.mem_append, List.not_mem_nil, or_false] at hq'
      rcases hq' with (h | h | h) | h | h
      · exact hRPj 0 (by omega) (by omega) q h
      · exact hRPk q h
      · exact hRPj 2 (by omega) (by omega) q h
      · exact hMP 0 (by omega) q h
      · exact hMP 1 (by omega) q h
    · show ct_R A dw (ct_up (A 11) (1 : Nat) r 3) W
      rw [e3]; exact hR
    · show ct_up (A 12) (1 : Nat) z 3 = W.length
      rw [e3']; exact h12
    · show ∀ q, 0 ≤ ct_up (A 11) (1 : Nat) r 3 → q ∈ ct_pg (ct_nd A) dw (ct_up (A 11) (1 : Nat) r 3) → _
      rw [e3]; exact hO'
    · show ∀ q, 0 ≤ q → q < 100 → A 5 q ≠ 0 → 0 ≤ ct_up (A 11) (1 : Nat) r 3 ∧ q ∈ ct_pg (ct_nd A) dw (ct_up (A 11) (1 : Nat) r 3)
      rw [e3]; exact hF
    · show ct_up (A 11) (1 : Nat) r 2 = -2
      rw [ct_un (by omega)]; exact hr2
theorem ct_Oopen {post : Int32 → St1 → Prop} {A : Nat → Int → Int} {W C : List ct_KV} {N : Int} {R0 R1 : Option (List ct_KV)} {k : Nat} (h : ct_Ob A W C N R0 R1) (hk : k < 2) (hp : ∀ B, ct_Ob B W C N (if k = 0 then some C else R0) (if k = 1 then some C else R1) → B 13 k = N → post (ct_i N) (ct_lf B)) : wpX_open post (ct_lf A) (ct_i (k : Int)) := by
  obtain ⟨D, dw, hM, hR, hW, h12, hok, hr0, hr1, hr2, hN, h5⟩ := ct_Ob_Mf h
  have h9 := hok.2 (ct_vm A)
  refine ct_open (A := A) (k := (k : Int)) (by omega) (by omega) hok ?_
  rw [hM.2.2.2.2.1]
  refine hp _ (ct_Ob_rd (n := N) (z := A 8 (ct_vm A)) h hk (Or.inr ⟨rfl, rfl, rfl, by rw [← hM.2.2.2.2.1]; exact h9.1, by rw [← hM.2.2.2.2.1]; exact h9.2⟩)) ?_
  exact (show ct_up (A 13) k N k = N from ct_us)
theorem ct_Rd_rg {A : Nat → Int → Int} {d : Nat} {k : Int} {R : Option (List ct_KV)} (h : ct_Rd A d k R) : -2 ≤ A 11 k ∧ A 11 k < 100 := by
  cases R with
  | none => have : A 11 k = -2 := h; omega
  | some X => have := ct_R_rg h.1; omega
theorem ct_Oclose {post : Int32 → St1 → Prop} {A : Nat → Int → Int} {W C : List ct_KV} {N : Int} {R0 R1 : Option (List ct_KV)} {k : Nat} (h : ct_Ob A W C N R0 R1) (hk : k < 2) (hp : ∀ B, ct_Ob B W C N (if k = 0 then none else R0) (if k = 1 then none else R1) → post (if (if k = 0 then R0 else R1) = none then 0 else 1) (ct_lf B)) : wpX_close post (ct_lf A) (ct_i (k : Int)) := by
  obtain ⟨D, dw, hM, hR, hW, h12, hok, hr0, hr1, hr2, hN, h5⟩ := ct_Ob_Mf h
  have hk2 : k = 0 ∨ k = 1 := by omega
  have hrg : -128 ≤ A 11 k ∧ A 11 k < 128 := by
    rcases hk2 with e | e <;> subst e
    · have := ct_Rd_rg hr0; constructor <;> (show _; simp only [Int.natCast_zero] at *; omega)
    · have := ct_Rd_rg hr1; constructor <;> (show _; simp only [Int.natCast_one] at *; omega)
  have hb := ct_Ob_rd (r := -2) (z := A 12 k) (n := A 13 k) (X := none) h hk (Or.inl ⟨rfl, rfl⟩)
  have e12 : ct_up (A 12) k (A 12 k) = A 12 := ct_up_self
  have e13 : ct_up (A 13) k (A 13 k) = A 13 := ct_up_self
  have hB : ct_st (ct_st (ct_st A 11 (ct_up (A 11) k (-2))) 12 (ct_up (A 12) k (A 12 k))) 13 (ct_up (A 13) k (A 13 k)) = ct_st A 11 (ct_up (A 11) k (-2)) := by
    rw [e12, e13]
    have s1 := ct_st_self (ct_st A 11 (ct_up (A 11) k (-2))) 12
    have s1' : ct_st (ct_st A 11 (ct_up (A 11) k (-2))) 12 (A 12) = ct_st A 11 (ct_up (A 11) k (-2)) := s1
    rw [s1']
    have s2 := ct_st_self (ct_st A 11 (ct_up (A 11) k (-2))) 13
    exact s2
  rw [hB] at hb
  refine ct_close (A := A) (k := (k : Int)) (by omega) (by omega) hrg ?_
  have := hp _ hb
  have hif : (if A 11 k = -2 then (0 : Int32) else 1) = (if (if k = 0 then R0 else R1) = none then 0 else 1) := by
    rcases hk2 with e | e <;> subst e
    · cases R0 with
      | none => rw [if_pos (show A 11 ((0 : Nat) : Int) = -2 from hr0)]; rfl
      | some X =>
        have := ct_R_rg hr0.1
        rw [if_neg (show ¬ A 11 ((0 : Nat) : Int) = -2 from show ¬ A 11 0 = -2 by omega)]; rfl
    · cases R1 with
      | none => rw [if_pos (show A 11 ((1 : Nat) : Int) = -2 from hr1)]; rfl
      | some X =>
        have := ct_R_rg hr1.1
        rw [if_neg (show ¬ A 11 ((1 : Nat) : Int) = -2 from show ¬ A 11 1 = -2 by omega)]; rfl
  rw [hif]; exact this
theorem ct_Oinit : ct_Ob ct_A0 [] [] 0 none none := by
  have hvm : ct_vm (ct_A1 4) = 0 := rfl
  have hok := ct_A1_ok 4
  have hM : ct_Mf (ct_A1 4) (fun _ => 0) [] 0 := by
    unfold ct_Mf
    rw [hvm]
    exact ⟨rfl, Or.inl ⟨rfl, rfl⟩, ⟨by simp [ct_so], by simp [ct_gd], by simp⟩, rfl, rfl, Or.inl rfl⟩
  exact ct_Ob_ld (A := ct_A1 4) hM hok rfl rfl rfl (by omega) (fun q => ⟨Int.le_refl 0, by show (0 : Int) ≤ 1; omega⟩)
end
section
/-! ===== 38: looking at an object; alike ===== -/
theorem ct_Oseen {post : Int32 → Prop} {A : Nat → Int → Int} {W C : List ct_KV} {N : Int} {R0 R1 : Option (List ct_KV)} {k : Nat} (h : ct_Ob A W C N R0 R1) (hk : k < 2) (hp0 : (if k = 0 then R0 else R1) = none → post (-1)) (hp1 : ∀ X, (if k = 0 then R0 else R1) = some X → 0 ≤ A 13 k → A 13 k < 1000 → post (ct_i (A 13 k))) : wpX_seen post (ct_lf A) (ct_i (k : Int)) := by
  obtain ⟨D, dw, hM, hR, hW, h12, hok, hr0, hr1, hr2, hN, h5⟩ := ct_Ob_Mf h
  have hk2 : k = 0 ∨ k = 1 := by omega
  have key : ∀ (R : Option (List ct_KV)) (d : Nat), ct_Rd A d k R → (if k = 0 then R0 else R1) = R → wpX_seen post (ct_lf A) (ct_i (k : Int)) := by
    intro R d hr e
    have hrg := ct_Rd_rg hr
    refine ct_seen (A := A) (k := (k : Int)) (by omega) (by omega) (by omega) ?_
    cases R with
    | none =>
      rw [if_pos (show A 11 k = -2 from hr)]
      exact hp0 e
    | some X =>
      have := ct_R_rg hr.1
      rw [if_neg (by omega)]
      exact hp1 X e hr.2.2.2.1 hr.2.2.2.2
  rcases hk2 with e | e <;> subst e
  · exact key R0 _ hr0 rfl
  · exact key R1 _ hr1 rfl
theorem ct_Oseen2 {post : Int32 → Prop} {A : Nat → Int → Int} {W C : List ct_KV} {N : Int} {R0 R1 : Option (List ct_KV)} (h : ct_Ob A W C N R0 R1) (hp : post (-1)) : wpX_seen post (ct_lf A) 2 := by
  obtain ⟨D, dw, hM, hR, hW, h12, hok, hr0, hr1, hr2, hN, h5⟩ := ct_Ob_Mf h
  refine ct_seen (A := A) (k := 2) (by omega) (by omega) (by omega) ?_
  rw [if_pos hr2]; exact hp
theorem ct_Osize {post : Int32 → Prop} {A : Nat → Int → Int} {W C : List ct_KV} {N : Int} {R0 R1 : Option (List ct_KV)} (h : ct_Ob A W C N R0 R1) (hp : post (ct_i (W.length : Int))) : wpX_size post (ct_lf A) 3 := by
  obtain ⟨D, dw, hM, hR, hW, h12, hok, hr0, hr1, hr2, hN, h5⟩ := ct_Ob_Mf h
  have hrg := ct_R_rg hR
  have hl := hW.2.2
  refine ct_size (A := A) (k := 3) (by omega) (by omega) (by omega) (by omega) ?_
  rw [if_neg (by omega), h12]; exact hp
theorem ct_Osizec {post : Int32 → Prop} {A : Nat → Int → Int} {W C : List ct_KV} {N : Int} {R0 R1 : Option (List ct_KV)} {k : Nat} (h : ct_Ob A W C N R0 R1) (hk : k < 2) (hn : (if k = 0 then R0 else R1) = none) (hp : post (-1)) : wpX_size post (ct_lf A) (ct_i (k : Int)) := by
  obtain ⟨D, dw, hM, hR, hW, h12, hok, hr0, hr1, hr2, hN, h5⟩ := ct_Ob_Mf h
  have hk2 : k = 0 ∨ k = 1 := by omega
  have h11 : A 11 k = -2 := by
    rcases hk2 with e | e <;> subst e
    · have e : R0 = none := hn
      subst e
      exact hr0
    · have e : R1 = none := hn
      subst e
      exact hr1
  unfold wpX_size
  refine ct_sees (A := A) (k := (k : Int)) (by omega) (by omega) (by omega) ?_
  rw [if_pos h11]
  exact br_t rfl hp
theorem ct_Ohas {post : Int32 → St1 → Prop} {A : Nat → Int → Int} {W C : List ct_KV} {N key : Int} {R0 R1 : Option (List ct_KV)} (h : ct_Ob A W C N R0 R1) (hkey : 0 ≤ key ∧ key < 100) (hp1 : ct_hk key W → ∀ B, ct_Ob B W C N R0 R1 → post 1 (ct_lf B)) (hp0 : ¬ ct_hk key W → ∀ B, ct_Ob B W C N R0 R1 → post 0 (ct_lf B)) : wpX_has post (ct_lf A) 3 (ct_i key) := by
  obtain ⟨D, dw, hM, hR, hW, h12, hok, hr0, hr1, hr2, hN, h5⟩ := ct_Ob_Mf h
  exact ct_has (A := A) (D := dw) (k := 3) (by omega) (by omega) hkey hR hW (fun v n f g hv _ => hp1 ⟨v, hv⟩ (ct_wy A n f g) h) (fun hn n f g => hp0 (ct_hk_no hn) (ct_wy A n f g) h)
theorem ct_Oall {post : Int64 → St1 → Prop} {A : Nat → Int → Int} {W C : List ct_KV} {N : Int} {R0 R1 : Option (List ct_KV)} (h : ct_Ob A W C N R0 R1) (hp : ∀ B, ct_Ob B W C N R0 R1 → post (ct_hs W) (ct_lf B)) : wpL_all post (ct_lf A) 3 := by
  obtain ⟨D, dw, hM, hR, hW, h12, hok, hr0, hr1, hr2, hN, h5⟩ := ct_Ob_Mf h
  exact ct_all (A := A) (D := dw) (k := 3) (by omega) (by omega) hR hW h12 (fun n f g => hp (ct_wy A n f g) h)
theorem ct_Oallr {post : Int64 → St1 → Prop} {A : Nat → Int → Int} {W C X : List ct_KV} {N : Int} {R0 R1 : Option (List ct_KV)} {k : Nat} (h : ct_Ob A W C N R0 R1) (hk : k < 2) (hX : (if k = 0 then R0 else R1) = some X) (hp : ct_W X → ∀ B, ct_Ob B W C N R0 R1 → post (ct_hs X) (ct_lf B)) : wpL_all post (ct_lf A) (ct_i (k : Int)) := by
  obtain ⟨D, dw, hM, hR, hW, h12, hok, hr0, hr1, hr2, hN, h5⟩ := ct_Ob_Mf h
  have hk2 : k = 0 ∨ k = 1 := by omega
  rcases hk2 with e | e <;> subst e
  · have e : R0 = some X := hX
    subst e
    exact ct_all (A := A) (D := D 0) (k := 0) (by omega) (by omega) hr0.1 hr0.2.1 hr0.2.2.1 (fun n f g => hp hr0.2.1 (ct_wy A n f g) h)
  · have e : R1 = some X := hX
    subst e
    exact ct_all (A := A) (D := D 1) (k := 1) (by omega) (by omega) hr1.1 hr1.2.1 hr1.2.2.1 (fun n f g => hp hr1.2.1 (ct_wy A n f g) h)
def ct_lf2 (A B : Nat → Int → Int) : St2 := (ct_i (A 0 0), ct_c (A 1), ct_c (A 2), ct_a (A 3), ct_c (A 4), ct_a (A 5), ct_a (A 6), ct_c (A 7), ct_c (A 8), ct_a (A 9), ct_a (A 10), ct_c (A 11), ct_c (A 12), ct_a (A 13), ct_c (A 14), ct_c (A 15), ct_c (A 16), ct_i (B 0 0), ct_c (B 1), ct_c (B 2), ct_a (B 3), ct_c (B 4), ct_a (B 5), ct_a (B 6), ct_c (B 7), ct_c (B 8), ct_a (B 9), ct_a (B 10), ct_c (B 11), ct_c (B 12), ct_a (B 13), ct_c (B 14), ct_c (B 15), ct_c (B 16))
theorem ct_Oalike {post : Int32 → St2 → Prop} {A B : Nat → Int → Int} {W C : List ct_KV} {N : Int} {R0 R1 Q0 Q1 : Option (List ct_KV)} (hA : ct_Ob A W C N R0 R1) (hB : ct_Ob B W C N Q0 Q1) (hp : ∀ A' B', ct_Ob A' W C N R0 R1 → ct_Ob B' W C N Q0 Q1 → post 1 (ct_lf2 A' B')) : wpL_alike post (ct_lf2 A B) := by
  have hW : ct_W W := (ct_Ob_Mf hA).choose_spec.choose_spec.2.2.1
  unfold wpL_alike
  refine ct_Oall hA (fun A' hA' => ?_)
  refine br_f (ct_hs_ne hW.2.1) ?_
  refine ct_Oall (A := B) hB (fun B' hB' => ?_)
  refine br_t rfl ?_
  refine ct_Onum hA' ?_
  refine ct_Onum hB' ?_
  refine br_t rfl ?_
  refine ct_Osize hA' ?_
  refine ct_Osize hB' ?_
  exact br_t rfl (hp A' B' hA' hB')
end
section
/-! ===== 39: the law: what a turn checks at its end ===== -/
theorem ct_law_569 {post : Int32 → Prop} {L : Nat} {xs : Nat → Int32} {J : Int64 → Int64 → Int32 → Int32 → Int32 → Int32 → (Nat → Int32) → (Nat → Int32) → (Nat → Int32) → (Nat → Int32) → (Nat → Int32) → (Nat → Int32) → (Nat → Int32) → (Nat → Int32) → (Nat → Int32) → (Nat → Int32) → (Nat → Int32) → (Nat → Int32) → (Nat → Int32) → (Nat → Int32) → (Nat → Int32) → (Nat → Int32) → Int32 → (Nat → Int32) → (Nat → Int32) → (Nat → Int32) → (Nat → Int32) → (Nat → Int32) → (Nat → Int32) → (Nat → Int32) → (Nat → Int32) → (Nat → Int32) → (Nat → Int32) → (Nat → Int32) → (Nat → Int32) → (Nat → Int32) → (Nat → Int32) → (Nat → Int32) → (Nat → Int32) → Int32 → (Nat → Int32) → (Nat → Int32) → (Nat → Int32) → (Nat → Int32) → (Nat → Int32) → (Nat → Int32) → (Nat → Int32) → (Nat → Int32) → (Nat → Int32) → (Nat → Int32) → (Nat → Int32) → (Nat → Int32) → (Nat → Int32) → (Nat → Int32) → (Nat → Int32) → (Nat → Int32) → Prop} {s0 s1 : Int64} {x8 x9 : Int32} {i : Int} {kc ks : Nat} {A B E : Nat → Int → Int} {W C : List ct_KV} {N : Int} {R0 R1 : Option (List ct_KV)} (hA : ct_Ob A W C N R0 R1) (hJ : J s0 s1 x8 x9 (ct_i (i + 2)) (ct_i (A 0 0)) (ct_c (A 1)) (ct_c (A 2)) (ct_a (A 3)) (ct_c (A 4)) (ct_a (A 5)) (ct_a (A 6)) (ct_c (A 7)) (ct_c (A 8)) (ct_a (A 9)) (ct_a (A 10)) (ct_c (A 11)) (ct_c (A 12)) (ct_a (A 13)) (ct_c (A 14)) (ct_c (A 15)) (ct_c (A 16)) (ct_i (B 0 0)) (ct_c (B 1)) (ct_c (B 2)) (ct_a (B 3)) (ct_c (B 4)) (ct_a (B 5)) (ct_a (B 6)) (ct_c (B 7)) (ct_c (B 8)) (ct_a (B 9)) (ct_a (B 10)) (ct_c (B 11)) (ct_c (B 12)) (ct_a (B 13)) (ct_c (B 14)) (ct_c (B 15)) (ct_c (B 16)) (ct_i (E 0 0)) (ct_c (E 1)) (ct_c (E 2)) (ct_a (E 3)) (ct_c (E 4)) (ct_a (E 5)) (ct_a (E 6)) (ct_c (E 7)) (ct_c (E 8)) (ct_a (E 9)) (ct_a (E 10)) (ct_c (E 11)) (ct_c (E 12)) (ct_a (E 13)) (ct_c (E 14)) (ct_c (E 15)) (ct_c (E 16))) : wL_law_569 post L xs J s0 s1 x8 x9 (ct_i i) kc ks (ct_i (A 0 0)) (ct_c (A 1)) (ct_c (A 2)) (ct_a (A 3)) (ct_c (A 4)) (ct_a (A 5)) (ct_a (A 6)) (ct_c (A 7)) (ct_c (A 8)) (ct_a (A 9)) (ct_a (A 10)) (ct_c (A 11)) (ct_c (A 12)) (ct_a (A 13)) (ct_c (A 14)) (ct_c (A 15)) (ct_c (A 16)) (ct_i (B 0 0)) (ct_c (B 1)) (ct_c (B 2)) (ct_a (B 3)) (ct_c (B 4)) (ct_a (B 5)) (ct_a (B 6)) (ct_c (B 7)) (ct_c (B 8)) (ct_a (B 9)) (ct_a (B 10)) (ct_c (B 11)) (ct_c (B 12)) (ct_a (B 13)) (ct_c (B 14)) (ct_c (B 15)) (ct_c (B 16)) (ct_i (E 0 0)) (ct_c (E 1)) (ct_c (E 2)) (ct_a (E 3)) (ct_c (E 4)) (ct_a (E 5)) (ct_a (E 6)) (ct_c (E 7)) (ct_c (E 8)) (ct_a (E 9)) (ct_a (E 10)) (ct_c (E 11)) (ct_c (E 12)) (ct_a (E 13)) (ct_c (E 14)) (ct_c (E 15)) (ct_c (E 16)) := by
  unfold wL_law_569
  refine ct_Oseen2 hA ?_
  exact br_t rfl (nm_r (e' := ct_i (i + 2)) (ct_add i 2) hJ)
theorem ct_law_550 {post : Int32 → Prop} {L : Nat} {xs : Nat → Int32} {J : Int64 → Int64 → Int32 → Int32 → Int32 → Int32 → (Nat → Int32) → (Nat → Int32) → (Nat → Int32) → (Nat → Int32) → (Nat → Int32) → (Nat → Int32) → (Nat → Int32) → (Nat → Int32) → (Nat → Int32) → (Nat → Int32) → (Nat → Int32) → (Nat → Int32) → (Nat → Int32) → (Nat → Int32) → (Nat → Int32) → (Nat → Int32) → Int32 → (Nat → Int32) → (Nat → Int32) → (Nat → Int32) → (Nat → Int32) → (Nat → Int32) → (Nat → Int32) → (Nat → Int32) → (Nat → Int32) → (Nat → Int32) → (Nat → Int32) → (Nat → Int32) → (Nat → Int32) → (Nat → Int32) → (Nat → Int32) → (Nat → Int32) → (Nat → Int32) → Int32 → (Nat → Int32) → (Nat → Int32) → (Nat → Int32) → (Nat → Int32) → (Nat → Int32) → (Nat → Int32) → (Nat → Int32) → (Nat → Int32) → (Nat → Int32) → (Nat → Int32) → (Nat → Int32) → (Nat → Int32) → (Nat → Int32) → (Nat → Int32) → (Nat → Int32) → (Nat → Int32) → Prop} {s0 s1 : Int64} {x8 x9 : Int32} {i : Int} {kc ks : Nat} {A B E : Nat → Int → Int} {W C : List ct_KV} {N : Int} {R0 R1 : Option (List ct_KV)} (hA : ct_Ob A W C N R0 R1) (h1 : ∀ X, R1 = some X → s1 = ct_hs X) (hJ : ∀ A', ct_Ob A' W C N R0 R1 → J s0 s1 x8 x9 (ct_i (i + 2)) (ct_i (A' 0 0)) (ct_c (A' 1)) (ct_c (A' 2)) (ct_a (A' 3)) (ct_c (A' 4)) (ct_a (A' 5)) (ct_a (A' 6)) (ct_c (A' 7)) (ct_c (A' 8)) (ct_a (A' 9)) (ct_a (A' 10)) (ct_c (A' 11)) (ct_c (A' 12)) (ct_a (A' 13)) (ct_c (A' 14)) (ct_c (A' 15)) (ct_c (A' 16)) (ct_i (B 0 0)) (ct_c (B 1)) (ct_c (B 2)) (ct_a (B 3)) (ct_c (B 4)) (ct_a (B 5)) (ct_a (B 6)) (ct_c (B 7)) (ct_c (B 8)) (ct_a (B 9)) (ct_a (B 10)) (ct_c (B 11)) (ct_c (B 12)) (ct_a (B 13)) (ct_c (B 14)) (ct_c (B 15)) (ct_c (B 16)) (ct_i (E 0 0)) (ct_c (E 1)) (ct_c (E 2)) (ct_a (E 3)) (ct_c (E 4)) (ct_a (E 5)) (ct_a (E 6)) (ct_c (E 7)) (ct_c (E 8)) (ct_a (E 9)) (ct_a (E 10)) (ct_c (E 11)) (ct_c (E 12)) (ct_a (E 13)) (ct_c (E 14)) (ct_c (E 15)) (ct_c (E 16))) : wL_law_550 post L xs J s0 s1 x8 x9 (ct_i i) kc ks (ct_i (A 0 0)) (ct_c (A 1)) (ct_c (A 2)) (ct_a (A 3)) (ct_c (A 4)) (ct_a (A 5)) (ct_a (A 6)) (ct_c (A 7)) (ct_c (A 8)) (ct_a (A 9)) (ct_a (A 10)) (ct_c (A 11)) (ct_c (A 12)) (ct_a (A 13)) (ct_c (A 14)) (ct_c (A 15)) (ct_c (A 16)) (ct_i (B 0 0)) (ct_c (B 1)) (ct_c (B 2)) (ct_a (B 3)) (ct_c (B 4)) (ct_a (B 5)) (ct_a (B 6)) (ct_c (B 7)) (ct_c (B 8)) (ct_a (B 9)) (ct_a (B 10)) (ct_c (B 11)) (ct_c (B 12)) (ct_a (B 13)) (ct_c (B 14)) (ct_c (B 15)) (ct_c (B 16)) (ct_i (E 0 0)) (ct_c (E 1)) (ct_c (E 2)) (ct_a (E 3)) (ct_c (E 4)) (ct_a (E 5)) (ct_a (E 6)) (ct_c (E 7)) (ct_c (E 8)) (ct_a (E 9)) (ct_a (E 10)) (ct_c (E 11)) (ct_c (E 12)) (ct_a (E 13)) (ct_c (E 14)) (ct_c (E 15)) (ct_c (E 16)) := by
  unfold wL_law_550
  refine ct_Oseen (k := 1) hA (by omega) (fun hn => ?_) (fun X hX hp hl => ?_)
  · exact br_t (by decide) (ct_law_569 hA (hJ A hA))
  · have e : R1 = some X := hX
    refine br_f (by rw [ct_l0, ct_lt (by omega) (by omega) (by omega) (by omega)]; omega) ?_
    refine ct_Oallr (k := 1) hA (by omega) hX (fun _ A' hA' => ?_)
    exact br_t (h1 X e).symm (ct_law_569 hA' (hJ A' hA'))
theorem ct_law_495 {post : Int32 → Prop} {L : Nat} {xs : Nat → Int32} {J : Int64 → Int64 → Int32 → Int32 → Int32 → Int32 → (Nat → Int32) → (Nat → Int32) → (Nat → Int32) → (Nat → Int32) → (Nat → Int32) → (Nat → Int32) → (Nat → Int32) → (Nat → Int32) → (Nat → Int32) → (Nat → Int32) → (Nat → Int32) → (Nat → Int32) → (Nat → Int32) → (Nat → Int32) → (Nat → Int32) → (Nat → Int32) → Int32 → (Nat → Int32) → (Nat → Int32) → (Nat → Int32) → (Nat → Int32) → (Nat → Int32) → (Nat → Int32) → (Nat → Int32) → (Nat → Int32) → (Nat → Int32) → (Nat → Int32) → (Nat → Int32) → (Nat → Int32) → (Nat → Int32) → (Nat → Int32) → (Nat → Int32) → (Nat → Int32) → Int32 → (Nat → Int32) → (Nat → Int32) → (Nat → Int32) → (Nat → Int32) → (Nat → Int32) → (Nat → Int32) → (Nat → Int32) → (Nat → Int32) → (Nat → Int32) → (Nat → Int32) → (Nat → Int32) → (Nat → Int32) → (Nat → Int32) → (Nat → Int32) → (Nat → Int32) → (Nat → Int32) → Prop} {s0 s1 : Int64} {x9 : Int32} {i : Int} {kc ks : Nat} {A B E : Nat → Int → Int} {W C : List ct_KV} {N : Int} {R0 R1 : Option (List ct_KV)} (hA : ct_Ob A W C N R0 R1) (hB : ct_Ob B W C N none none) (hE : ct_Ob E W C N none none) (h0 : ∀ X, R0 = some X → s0 = ct_hs X) (h1 : ∀ X, R1 = some X → s1 = ct_hs X)
    (hJ : ∀ A' B' E', ct_Ob A' W C N R0 R1 → ct_Ob B' W C N none none → ct_Ob E' W C N none none → J s0 s1 (ct_i (W.length : Int)) x9 (ct_i (i + 2)) (ct_i (A' 0 0)) (ct_c (A' 1)) (ct_c (A' 2)) (ct_a (A' 3)) (ct_c (A' 4)) (ct_a (A' 5)) (ct_a (A' 6)) (ct_c (A' 7)) (ct_c (A' 8)) (ct_a (A' 9)) (ct_a (A' 10)) (ct_c (A' 11)) (ct_c (A' 12)) (ct_a (A' 13)) (ct_c (A' 14)) (ct_c (A' 15)) (ct_c (A' 16)) (ct_i (B' 0 0)) (ct_c (B' 1)) (ct_c (B' 2)) (ct_a (B' 3)) (ct_c (B' 4)) (ct_a (B' 5)) (ct_a (B' 6)) (ct_c (B' 7)) (ct_c (B' 8)) (ct_a (B' 9)) (ct_a (B' 10)) (ct_c (B' 11)) (ct_c (B' 12)) (ct_a (B' 13)) (ct_c (B' 14)) (ct_c (B' 15)) (ct_c (B' 16)) (ct_i (E' 0 0)) (ct_c (E' 1)) (ct_c (E' 2)) (ct_a (E' 3)) (ct_c (E' 4)) (ct_a (E' 5)) (ct_a (E' 6)) (ct_c (E' 7)) (ct_c (E' 8)) (ct_a (E' 9)) (ct_a (E' 10)) (ct_c (E' 11)) (ct_c (E' 12)) (ct_a (E' 13)) (ct_c (E' 14)) (ct_c (E' 15)) (ct_c (E' 16))) : wL_law_495 post L xs J s0 s1 (ct_i (W.length : Int)) x9 (ct_i i) kc ks (ct_i (A 0 0)) (ct_c (A 1)) (ct_c (A 2)) (ct_a (A 3)) (ct_c (A 4)) (ct_a (A 5)) (ct_a (A 6)) (ct_c (A 7)) (ct_c (A 8)) (ct_a (A 9)) (ct_a (A 10)) (ct_c (A 11)) (ct_c (A 12)) (ct_a (A 13)) (ct_c (A 14)) (ct_c (A 15)) (ct_c (A 16)) (ct_i (B 0 0)) (ct_c (B 1)) (ct_c (B 2)) (ct_a (B 3)) (ct_c (B 4)) (ct_a (B 5)) (ct_a (B 6)) (ct_c (B 7)) (ct_c (B 8)) (ct_a (B 9)) (ct_a (B 10)) (ct_c (B 11)) (ct_c (B 12)) (ct_a (B 13)) (ct_c (B 14)) (ct_c (B 15)) (ct_c (B 16)) (ct_i (E 0 0)) (ct_c (E 1)) (ct_c (E 2)) (ct_a (E 3)) (ct_c (E 4)) (ct_a (E 5)) (ct_a (E 6)) (ct_c (E 7)) (ct_c (E 8)) (ct_a (E 9)) (ct_a (E 10)) (ct_c (E 11)) (ct_c (E 12)) (ct_a (E 13)) (ct_c (E 14)) (ct_c (E 15)) (ct_c (E 16)) := by
  unfold wL_law_495
  refine ct_Oalike (A := A) (B := B) hA hB (fun A1 B1 hA1 hB1 => ?_)
  refine ct_Oalike (A := A1) (B := E) hA1 hE (fun A2 E2 hA2 hE2 => ?_)
  refine br_f (by decide) (br_f (by decide) ?_)
  refine ct_Osize hA2 ?_
  refine br_t rfl ?_
  refine ct_Oseen (k := 0) hA2 (by omega) (fun hn => ?_) (fun X hX hp hl => ?_)
  · exact br_t (by decide) (ct_law_550 hA2 h1 (fun A' hA' => hJ A' B1 E2 hA' hB1 hE2))
  · have e : R0 = some X := hX
    refine br_f (by rw [ct_l0, ct_lt (by omega) (by omega) (by omega) (by omega)]; omega) ?_
    refine ct_Oallr (k := 0) hA2 (by omega) hX (fun _ A3 hA3 => ?_)
    exact br_t (h0 X e).symm (ct_law_550 hA3 h1 (fun A' hA' => hJ A' B1 E2 hA' hB1 hE2))
/-- a turn that puts -/
theorem ct_law_142 {post : Int32 → Prop} {L : Nat} {xs : Nat → Int32} {J : Int64 → Int64 → Int32 → Int32 → Int32 → Int32 → (Nat → Int32) → (Nat → Int32) → (Nat → Int32) → (Nat → Int32) → (Nat → Int32) → (Nat → Int32) → (Nat → Int32) → (Nat → Int32) → (Nat → Int32) → (Nat → Int32) → (Nat → Int32) → (Nat → Int32) → (Nat → Int32) → (Nat → Int32) → (Nat → Int32) → (Nat → Int32) → Int32 → (Nat → Int32) → (Nat → Int32) → (Nat → Int32) → (Nat → Int32) → (Nat → Int32) → (Nat → Int32) → (Nat → Int32) → (Nat → Int32) → (Nat → Int32) → (Nat → Int32) → (Nat → Int32) → (Nat → Int32) → (Nat → Int32) → (Nat → Int32) → (Nat → Int32) → (Nat → Int32) → Int32 → (Nat → Int32) → (Nat → Int32) → (Nat → Int32) → (Nat → Int32) → (Nat → Int32) → (Nat → Int32) → (Nat → Int32) → (Nat → Int32) → (Nat → Int32) → (Nat → Int32) → (Nat → Int32) → (Nat → Int32) → (Nat → Int32) → (Nat → Int32) → (Nat → Int32) → (Nat → Int32) → Prop} {s0 s1 : Int64} {x9 : Int32} {i key v : Int} {z : Int32} {kc ks : Nat} {A B E : Nat → Int → Int} {W C : List ct_KV} {N : Int} {R0 R1 : Option (List ct_KV)} (hA : ct_Ob A W C N R0 R1) (hB : ct_Ob B W C N none none) (hE : ct_Ob E W C N none none) (h0 : ∀ X, R0 = some X → s0 = ct_hs X) (h1 : ∀ X, R1 = some X → s1 = ct_hs X) (hkey : 0 ≤ key ∧ key < 100) (hv : 0 ≤ v ∧ v < 1048576) (hpar : (key + v) % 2 = 0) (hz : (ct_hk key W ∧ z = 0) ∨ (¬ ct_hk key W ∧ W.length < 24 ∧ z = 1) ∨ (¬ ct_hk key W ∧ ¬ W.length < 24 ∧ z = -2))
    (hJ : ∀ A' B' E' W', ct_Ob A' W' C N R0 R1 → ct_Ob B' W' C N none none → ct_Ob E' W' C N none none → J s0 s1 (ct_i (W'.length : Int)) x9 (ct_i (i + 2)) (ct_i (A' 0 0)) (ct_c (A' 1)) (ct_c (A' 2)) (ct_a (A' 3)) (ct_c (A' 4)) (ct_a (A' 5)) (ct_a (A' 6)) (ct_c (A' 7)) (ct_c (A' 8)) (ct_a (A' 9)) (ct_a (A' 10)) (ct_c (A' 11)) (ct_c (A' 12)) (ct_a (A' 13)) (ct_c (A' 14)) (ct_c (A' 15)) (ct_c (A' 16)) (ct_i (B' 0 0)) (ct_c (B' 1)) (ct_c (B' 2)) (ct_a (B' 3)) (ct_c (B' 4)) (ct_a (B' 5)) (ct_a (B' 6)) (ct_c (B' 7)) (ct_c (B' 8)) (ct_a (B' 9)) (ct_a (B' 10)) (ct_c (B' 11)) (ct_c (B' 12)) (ct_a (B' 13)) (ct_c (B' 14)) (ct_c (B' 15)) (ct_c (B' 16)) (ct_i (E' 0 0)) (ct_c (E' 1)) (ct_c (E' 2)) (ct_a (E' 3)) (ct_c (E' 4)) (ct_a (E' 5)) (ct_a (E' 6)) (ct_c (E' 7)) (ct_c (E' 8)) (ct_a (E' 9)) (ct_a (E' 10)) (ct_c (E' 11)) (ct_c (E' 12)) (ct_a (E' 13)) (ct_c (E' 14)) (ct_c (E' 15)) (ct_c (E' 16))) : wL_law_142 post L xs J s0 s1 (ct_i (W.length : Int)) x9 (ct_i i) (ct_i v) (ct_i key) z kc ks (ct_i (A 0 0)) (ct_c (A 1)) (ct_c (A 2)) (ct_a (A 3)) (ct_c (A 4)) (ct_a (A 5)) (ct_a (A 6)) (ct_c (A 7)) (ct_c (A 8)) (ct_a (A 9)) (ct_a (A 10)) (ct_c (A 11)) (ct_c (A 12)) (ct_a (A 13)) (ct_c (A 14)) (ct_c (A 15)) (ct_c (A 16)) (ct_i (B 0 0)) (ct_c (B 1)) (ct_c (B 2)) (ct_a (B 3)) (ct_c (B 4)) (ct_a (B 5)) (ct_a (B 6)) (ct_c (B 7)) (ct_c (B 8)) (ct_a (B 9)) (ct_a (B 10)) (ct_c (B 11)) (ct_c (B 12)) (ct_a (B 13)) (ct_c (B 14)) (ct_c (B 15)) (ct_c (B 16)) (ct_i (E 0 0)) (ct_c (E 1)) (ct_c (E 2)) (ct_a (E 3)) (ct_c (E 4)) (ct_a (E 5)) (ct_a (E 6)) (ct_c (E 7)) (ct_c (E 8)) (ct_a (E 9)) (ct_a (E 10)) (ct_c (E 11)) (ct_c (E 12)) (ct_a (E 13)) (ct_c (E 14)) (ct_c (E 15)) (ct_c (E 16)) := by
  unfold wL_law_142
  rcases hz with ⟨hk, hz⟩ | ⟨hk, hl, hz⟩ | ⟨hk, hl, hz⟩
  · subst hz
    refine ct_Op (A := A) hA hkey hv hpar (fun _ A1 hA1 hlen => ?_) (fun h => absurd hk h) (fun h => absurd hk h)
    refine br_t rfl ?_
    refine ct_Op (A := B) hB hkey hv hpar (fun _ B1 hB1 _ => ?_) (fun h => absurd hk h) (fun h => absurd hk h)
    refine br_t rfl ?_
    refine ct_Op (A := E) hE hkey hv hpar (fun _ E1 hE1 _ => ?_) (fun h => absurd hk h) (fun h => absurd hk h)
    refine br_t rfl (br_f (by decide) ?_)
    unfold wL_law_194
    rw [← hlen]
    exact ct_law_495 hA1 hB1 hE1 h0 h1 (fun A' B' E' a b c => hJ A' B' E' _ a b c)
  · subst hz
    refine ct_Op (A := A) hA hkey hv hpar (fun h => absurd h hk) (fun _ _ A1 hA1 hlen => ?_) (fun _ h => absurd hl h)
    refine br_t rfl ?_
    refine ct_Op (A := B) hB hkey hv hpar (fun h => absurd h hk) (fun _ _ B1 hB1 _ => ?_) (fun _ h => absurd hl h)
    refine br_t rfl ?_
    refine ct_Op (A := E) hE hkey hv hpar (fun h => absurd h hk) (fun _ _ E1 hE1 _ => ?_) (fun _ h => absurd hl h)
    refine br_t rfl (br_t rfl ?_)
    refine nm_r (e' := ct_i ((ct_pu key v W).length : Int)) (by rw [ct_l1, ct_add, hlen]; congr 1) ?_
    unfold wL_law_194
    exact ct_law_495 hA1 hB1 hE1 h0 h1 (fun A' B' E' a b c => hJ A' B' E' _ a b c)
  · subst hz
    refine ct_Op (A := A) hA hkey hv hpar (fun h => absurd h hk) (fun _ h => absurd h hl) (fun _ _ A1 hA1 => ?_)
    refine br_t rfl ?_
    refine ct_Op (A := B) hB hkey hv hpar (fun h => absurd h hk) (fun _ h => absurd h hl) (fun _ _ B1 hB1 => ?_)
    refine br_t rfl ?_
    refine ct_Op (A := E) hE hkey hv hpar (fun h => absurd h hk) (fun _ h => absurd h hl) (fun _ _ E1 hE1 => ?_)
    refine br_t rfl (br_f (by decide) ?_)
    unfold wL_law_194
    exact ct_law_495 hA1 hB1 hE1 h0 h1 (fun A' B' E' a b c => hJ A' B' E' _ a b c)
/-- a turn that erases -/
theorem ct_law_219 {post : Int32 → Prop} {L : Nat} {xs : Nat → Int32} {J : Int64 → Int64 → Int32 → Int32 → Int32 → Int32 → (Nat → Int32) → (Nat → Int32) → (Nat → Int32) → (Nat → Int32) → (Nat → Int32) → (Nat → Int32) → (Nat → Int32) → (Nat → Int32) → (Nat → Int32) → (Nat → Int32) → (Nat → Int32) → (Nat → Int32) → (Nat → Int32) → (Nat → Int32) → (Nat → Int32) → (Nat → Int32) → Int32 → (Nat → Int32) → (Nat → Int32) → (Nat → Int32) → (Nat → Int32) → (Nat → Int32) → (Nat → Int32) → (Nat → Int32) → (Nat → Int32) → (Nat → Int32) → (Nat → Int32) → (Nat → Int32) → (Nat → Int32) → (Nat → Int32) → (Nat → Int32) → (Nat → Int32) → (Nat → Int32) → Int32 → (Nat → Int32) → (Nat → Int32) → (Nat → Int32) → (Nat → Int32) → (Nat → Int32) → (Nat → Int32) → (Nat → Int32) → (Nat → Int32) → (Nat → Int32) → (Nat → Int32) → (Nat → Int32) → (Nat → Int32) → (Nat → Int32) → (Nat → Int32) → (Nat → Int32) → (Nat → Int32) → Prop} {s0 s1 : Int64} {x9 : Int32} {i key : Int} {z : Int32} {kc ks : Nat} {A B E : Nat → Int → Int} {W C : List ct_KV} {N : Int} {R0 R1 : Option (List ct_KV)} (hA : ct_Ob A W C N R0 R1) (hB : ct_Ob B W C N none none) (hE : ct_Ob E W C N none none) (h0 : ∀ X, R0 = some X → s0 = ct_hs X) (h1 : ∀ X, R1 = some X → s1 = ct_hs X) (hkey : 0 ≤ key ∧ key < 100) (hz : (ct_hk key W ∧ z = 1) ∨ (¬ ct_hk key W ∧ z = 0))
    (hJ : ∀ A' B' E' W', ct_Ob A' W' C N R0 R1 → ct_Ob B' W' C N none none → ct_Ob E' W' C N none none → J s0 s1 (ct_i (W'.length : Int)) x9 (ct_i (i + 2)) (ct_i (A' 0 0)) (ct_c (A' 1)) (ct_c (A' 2)) (ct_a (A' 3)) (ct_c (A' 4)) (ct_a (A' 5)) (ct_a (A' 6)) (ct_c (A' 7)) (ct_c (A' 8)) (ct_a (A' 9)) (ct_a (A' 10)) (ct_c (A' 11)) (ct_c (A' 12)) (ct_a (A' 13)) (ct_c (A' 14)) (ct_c (A' 15)) (ct_c (A' 16)) (ct_i (B' 0 0)) (ct_c (B' 1)) (ct_c (B' 2)) (ct_a (B' 3)) (ct_c (B' 4)) (ct_a (B' 5)) (ct_a (B' 6)) (ct_c (B' 7)) (ct_c (B' 8)) (ct_a (B' 9)) (ct_a (B' 10)) (ct_c (B' 11)) (ct_c (B' 12)) (ct_a (B' 13)) (ct_c (B' 14)) (ct_c (B' 15)) (ct_c (B' 16)) (ct_i (E' 0 0)) (ct_c (E' 1)) (ct_c (E' 2)) (ct_a (E' 3)) (ct_c (E' 4)) (ct_a (E' 5)) (ct_a (E' 6)) (ct_c (E' 7)) (ct_c (E' 8)) (ct_a (E' 9)) (ct_a (E' 10)) (ct_c (E' 11)) (ct_c (E' 12)) (ct_a (E' 13)) (ct_c (E' 14)) (ct_c (E' 15)) (ct_c (E' 16))) : wL_law_219 post L xs J s0 s1 (ct_i (W.length : Int)) x9 (ct_i i) (ct_i key) z kc ks (ct_i (A 0 0)) (ct_c (A 1)) (ct_c (A 2)) (ct_a (A 3)) (ct_c (A 4)) (ct_a (A 5)) (ct_a (A 6)) (ct_c (A 7)) (ct_c (A 8)) (ct_a (A 9)) (ct_a (A 10)) (ct_c (A 11)) (ct_c (A 12)) (ct_a (A 13)) (ct_c (A 14)) (ct_c (A 15)) (ct_c (A 16)) (ct_i (B 0 0)) (ct_c (B 1)) (ct_c (B 2)) (ct_a (B 3)) (ct_c (B 4)) (ct_a (B 5)) (ct_a (B 6)) (ct_c (B 7)) (ct_c (B 8)) (ct_a (B 9)) (ct_a (B 10)) (ct_c (B 11)) (ct_c (B 12)) (ct_a (B 13)) (ct_c (B 14)) (ct_c (B 15)) (ct_c (B 16)) (ct_i (E 0 0)) (ct_c (E 1)) (ct_c (E 2)) (ct_a (E 3)) (ct_c (E 4)) (ct_a (E 5)) (ct_a (E 6)) (ct_c (E 7)) (ct_c (E 8)) (ct_a (E 9)) (ct_a (E 10)) (ct_c (E 11)) (ct_c (E 12)) (ct_a (E 13)) (ct_c (E 14)) (ct_c (E 15)) (ct_c (E 16)) := by
  unfold wL_law_219
  rcases hz with ⟨hk, hz⟩ | ⟨hk, hz⟩
  · subst hz
    refine ct_Oe (A := A) hA hkey (fun h => absurd hk h) (fun _ A1 hA1 hlen => ?_)
    refine br_t rfl ?_
    refine ct_Oe (A := B) hB hkey (fun h => absurd hk h) (fun _ B1 hB1 _ => ?_)
    refine br_t rfl ?_
    refine ct_Oe (A := E) hE hkey (fun h => absurd hk h) (fun _ E1 hE1 _ => ?_)
    refine br_t rfl ?_
    refine nm_r (e' := ct_i ((ct_er key W).length : Int)) (by rw [ct_l1, ct_sub]; congr 1; omega) ?_
    exact ct_law_495 hA1 hB1 hE1 h0 h1 (fun A' B' E' a b c => hJ A' B' E' _ a b c)
  · subst hz
    refine ct_Oe (A := A) hA hkey (fun _ A1 hA1 => ?_) (fun h => absurd h hk)
    refine br_t rfl ?_
    refine ct_Oe (A := B) hB hkey (fun _ B1 hB1 => ?_) (fun h => absurd h hk)
    refine br_t rfl ?_
    refine ct_Oe (A := E) hE hkey (fun _ E1 hE1 => ?_) (fun h => absurd h hk)
    refine br_t rfl ?_
    refine nm_r (e' := ct_i (W.length : Int)) (by rw [ct_l0, ct_sub]; congr 1) ?_
    exact ct_law_495 hA1 hB1 hE1 h0 h1 (fun A' B' E' a b c => hJ A' B' E' _ a b c)
end
section
/-! ===== 40: a turn of the law ===== -/
theorem ct_law_102 {post : Int32 → Prop} {L : Nat} {xs : Nat → Int32} {J : Int64 → Int64 → Int32 → Int32 → Int32 → Int32 → (Nat → Int32) → (Nat → Int32) → (Nat → Int32) → (Nat → Int32) → (Nat → Int32) → (Nat → Int32) → (Nat → Int32) → (Nat → Int32) → (Nat → Int32) → (Nat → Int32) → (Nat → Int32) → (Nat → Int32) → (Nat → Int32) → (Nat → Int32) → (Nat → Int32) → (Nat → Int32) → Int32 → (Nat → Int32) → (Nat → Int32) → (Nat → Int32) → (Nat → Int32) → (Nat → Int32) → (Nat → Int32) → (Nat → Int32) → (Nat → Int32) → (Nat → Int32) → (Nat → Int32) → (Nat → Int32) → (Nat → Int32) → (Nat → Int32) → (Nat → Int32) → (Nat → Int32) → (Nat → Int32) → Int32 → (Nat → Int32) → (Nat → Int32) → (Nat → Int32) → (Nat → Int32) → (Nat → Int32) → (Nat → Int32) → (Nat → Int32) → (Nat → Int32) → (Nat → Int32) → (Nat → Int32) → (Nat → Int32) → (Nat → Int32) → (Nat → Int32) → (Nat → Int32) → (Nat → Int32) → (Nat → Int32) → Prop} {s0 s1 : Int64} {i key v op : Int} {k : Nat} {z : Int32} {kc ks : Nat} {A B E : Nat → Int → Int} {W C : List ct_KV} {N : Int} {R0 R1 : Option (List ct_KV)} (hA : ct_Ob A W C N R0 R1) (hB : ct_Ob B W C N none none) (hE : ct_Ob E W C N none none) (h0 : ∀ X, R0 = some X → s0 = ct_hs X) (h1 : ∀ X, R1 = some X → s1 = ct_hs X) (hkey : 0 ≤ key ∧ key < 100) (hv : 0 ≤ v ∧ v < 1048576) (hpar : (key + v) % 2 = 0) (hop : 0 ≤ op ∧ op < 16) (hk : k < 2) (hz : z = (if (if k = 0 then R0 else R1) = none then 0 else 1)) (hN : N + 1 < 900)
    (hJ : ∀ A' B' E' W' C' N' R0' R1' s0' s1', ct_Ob A' W' C' N' R0' R1' → ct_Ob B' W' C' N' none none → ct_Ob E' W' C' N' none none → (∀ X, R0' = some X → s0' = ct_hs X) → (∀ X, R1' = some X → s1' = ct_hs X) → N' ≤ N + 1 → J s0' s1' (ct_i (W'.length : Int)) (ct_i (C'.length : Int)) (ct_i (i + 2)) (ct_i (A' 0 0)) (ct_c (A' 1)) (ct_c (A' 2)) (ct_a (A' 3)) (ct_c (A' 4)) (ct_a (A' 5)) (ct_a (A' 6)) (ct_c (A' 7)) (ct_c (A' 8)) (ct_a (A' 9)) (ct_a (A' 10)) (ct_c (A' 11)) (ct_c (A' 12)) (ct_a (A' 13)) (ct_c (A' 14)) (ct_c (A' 15)) (ct_c (A' 16)) (ct_i (B' 0 0)) (ct_c (B' 1)) (ct_c (B' 2)) (ct_a (B' 3)) (ct_c (B' 4)) (ct_a (B' 5)) (ct_a (B' 6)) (ct_c (B' 7)) (ct_c (B' 8)) (ct_a (B' 9)) (ct_a (B' 10)) (ct_c (B' 11)) (ct_c (B' 12)) (ct_a (B' 13)) (ct_c (B' 14)) (ct_c (B' 15)) (ct_c (B' 16)) (ct_i (E' 0 0)) (ct_c (E' 1)) (ct_c (E' 2)) (ct_a (E' 3)) (ct_c (E' 4)) (ct_a (E' 5)) (ct_a (E' 6)) (ct_c (E' 7)) (ct_c (E' 8)) (ct_a (E' 9)) (ct_a (E' 10)) (ct_c (E' 11)) (ct_c (E' 12)) (ct_a (E' 13)) (ct_c (E' 14)) (ct_c (E' 15)) (ct_c (E' 16))) :
    wL_law_102 post L xs J s0 s1 (ct_i (W.length : Int)) (ct_i (C.length : Int)) (ct_i i) (ct_i op) (ct_i v) (ct_i key) (ct_i (k : Int)) z kc ks (ct_i (A 0 0)) (ct_c (A 1)) (ct_c (A 2)) (ct_a (A 3)) (ct_c (A 4)) (ct_a (A 5)) (ct_a (A 6)) (ct_c (A 7)) (ct_c (A 8)) (ct_a (A 9)) (ct_a (A 10)) (ct_c (A 11)) (ct_c (A 12)) (ct_a (A 13)) (ct_c (A 14)) (ct_c (A 15)) (ct_c (A 16)) (ct_i (B 0 0)) (ct_c (B 1)) (ct_c (B 2)) (ct_a (B 3)) (ct_c (B 4)) (ct_a (B 5)) (ct_a (B 6)) (ct_c (B 7)) (ct_c (B 8)) (ct_a (B 9)) (ct_a (B 10)) (ct_c (B 11)) (ct_c (B 12)) (ct_a (B 13)) (ct_c (B 14)) (ct_c (B 15)) (ct_c (B 16)) (ct_i (E 0 0)) (ct_c (E 1)) (ct_c (E 2)) (ct_a (E 3)) (ct_c (E 4)) (ct_a (E 5)) (ct_a (E 6)) (ct_c (E 7)) (ct_c (E 8)) (ct_a (E 9)) (ct_a (E 10)) (ct_c (E 11)) (ct_c (E 12)) (ct_a (E 13)) (ct_c (E 14)) (ct_c (E 15)) (ct_c (E 16)) := by
  obtain ⟨D, dw, hM, hR, hW, h12, hok, hr0, hr1, hr2, hN9, h5⟩ := ct_Ob_Mf hA
  have hWl := hW.2.2
  have hC : ct_W C := hM.2.2.1
  have lt : ∀ a : Int, -1000 ≤ a → a < 1000 → (ct_i a < ct_i op ↔ a < op) := fun a g1 g2 => ct_lt (by omega) (by omega) (by omega) (by omega)
  have eqo : ∀ a : Int, -1000 ≤ a → a < 1000 → (ct_i op = ct_i a ↔ op = a) := fun a g1 g2 => ct_eq (by omega) (by omega) (by omega) (by omega)
  unfold wL_law_102
  show (ct_i 6 < ct_i op → (ct_i 9 < ct_i op → (ct_i op = ct_i 10 → _) ∧ (¬ ct_i op = ct_i 10 → (ct_i op = ct_i 11 → _) ∧ (¬ ct_i op = ct_i 11 → (ct_i 13 < ct_i op → (ct_i op = ct_i 14 → _) ∧ (¬ ct_i op = ct_i 14 → _)) ∧ (¬ ct_i 13 < ct_i op → _)))) ∧ (¬ ct_i 9 < ct_i op → _)) ∧ (¬ ct_i 6 < ct_i op → _)
  rw [lt 6 (by omega) (by omega), lt 9 (by omega) (by omega), lt 13 (by omega) (by omega), eqo 10 (by omega) (by omega), eqo 11 (by omega) (by omega), eqo 14 (by omega) (by omega)]
  refine br_c (fun _ => br_c (fun _ => br_c (fun _ => ?_) (fun _ => br_c (fun _ => ?_) (fun _ => br_c (fun _ => br_c (fun _ => ?_) (fun _ => ?_)) (fun _ => ?_)))) (fun _ => ?_)) (fun _ => ?_)
  · -- commit
    refine ct_Onum hA ?_
    refine nm_r (e' := ct_i (N + 1)) (ct_add N 1) ?_
    refine ct_Ocommit (A := A) hA hN (fun A1 hA1 => ?_)
    refine br_t rfl ?_
    refine ct_Ocommit (A := B) hB hN (fun B1 hB1 => ?_)
    refine br_t rfl ?_
    refine ct_Ocrash1 (A := E) hE hN (fun E1 hE1 => ?_)
    refine br_t rfl ?_
    exact ct_law_495 hA1 hB1 hE1 h0 h1 (fun A' B' E' a b c => hJ A' B' E' _ _ _ _ _ _ _ a b c h0 h1 (by omega))
  · -- abort
    refine ct_Onum hA ?_
    refine ct_Oabort (A := A) hA (fun A1 hA1 => ?_)
    refine br_t rfl ?_
    refine ct_Ocrash0 (A := B) hB (fun B1 hB1 => ?_)
    refine br_t rfl ?_
    refine ct_Ocrash2 (A := E) hE (fun E1 hE1 => ?_)
    refine br_t rfl ?_
    exact ct_law_495 hA1 hB1 hE1 h0 h1 (fun A' B' E' a b c => hJ A' B' E' _ _ _ _ _ _ _ a b c h0 h1 (by omega))
  · -- close
    refine ct_Oclose (A := A) hA hk (fun A1 hA1 => ?_)
    have h480 : wL_law_480 post L xs J s0 s1 (ct_i (W.length : Int)) (ct_i (C.length : Int)) (ct_i i) (ct_i (k : Int)) z (if (if k = 0 then R0 else R1) = none then 0 else 1) kc ks (ct_i (A1 0 0)) (ct_c (A1 1)) (ct_c (A1 2)) (ct_a (A1 3)) (ct_c (A1 4)) (ct_a (A1 5)) (ct_a (A1 6)) (ct_c (A1 7)) (ct_c (A1 8)) (ct_a (A1 9)) (ct_a (A1 10)) (ct_c (A1 11)) (ct_c (A1 12)) (ct_a (A1 13)) (ct_c (A1 14)) (ct_c (A1 15)) (ct_c (A1 16)) (ct_i (B 0 0)) (ct_c (B 1)) (ct_c (B 2)) (ct_a (B 3)) (ct_c (B 4)) (ct_a (B 5)) (ct_a (B 6)) (ct_c (B 7)) (ct_c (B 8)) (ct_a (B 9)) (ct_a (B 10)) (ct_c (B 11)) (ct_c (B 12)) (ct_a (B 13)) (ct_c (B 14)) (ct_c (B 15)) (ct_c (B 16)) (ct_i (E 0 0)) (ct_c (E 1)) (ct_c (E 2)) (ct_a (E 3)) (ct_c (E 4)) (ct_a (E 5)) (ct_a (E 6)) (ct_c (E 7)) (ct_c (E 8)) (ct_a (E 9)) (ct_a (E 10)) (ct_c (E 11)) (ct_c (E 12)) (ct_a (E 13)) (ct_c (E 14)) (ct_c (E 15)) (ct_c (E 16)) := by
      unfold wL_law_480
      refine br_t hz.symm ?_
      refine ct_Osizec (A := A1) hA1 hk ?_ ?_
      · have hk2 : k = 0 ∨ k = 1 := by omega
        rcases hk2 with e | e <;> subst e <;> rfl
      refine br_t rfl ?_
      refine ct_law_495 hA1 hB hE ?_ ?_ (fun A' B' E' a b c => hJ A' B' E' _ _ _ _ _ _ _ a b c ?_ ?_ (by omega))
      · intro X hX
        by_cases e : k = 0
        · rw [if_pos e] at hX; exact absurd hX (by simp)
        · rw [if_neg e] at hX; exact h0 X hX
      · intro X hX
        by_cases e : k = 1
        · rw [if_pos e] at hX; exact absurd hX (by simp)
        · rw [if_neg e] at hX; exact h1 X hX
      · intro X hX
        by_cases e : k = 0
        · rw [if_pos e] at hX; exact absurd hX (by simp)
        · rw [if_neg e] at hX; exact h0 X hX
      · intro X hX
        by_cases e : k = 1
        · rw [if_pos e] at hX; exact absurd hX (by simp)
        · rw [if_neg e] at hX; exact h1 X hX
    by_cases e : (if k = 0 then R0 else R1) = none
    · rw [if_pos e] at hz h480 ⊢
      subst hz
      exact br_t rfl h480
    · rw [if_neg e] at hz h480 ⊢
      subst hz
      exact br_f (by decide) h480
  · -- nothing
    exact ct_law_495 hA hB hE h0 h1 (fun A' B' E' a b c => hJ A' B' E' _ _ _ _ _ _ _ a b c h0 h1 (by omega))
  · -- open
    refine ct_Oopen (A := A) hA hk (fun A1 hA1 hn => ?_)
    refine ct_Onum hA1 ?_
    refine br_t rfl ?_
    have hk2 : k = 0 ∨ k = 1 := by omega
    rcases hk2 with e | e <;> subst e
    · refine ct_Oseen (k := 0) hA1 (by omega) (fun h => absurd h (by simp)) (fun X hX g0 g1 => ?_)
      rw [hn]
      refine br_t rfl (br_t rfl ?_)
      refine ct_Oallr (k := 0) (X := C) hA1 (by omega) rfl (fun _ A2 hA2 => ?_)
      show wL_law_421 post L xs J s1 (ct_i (W.length : Int)) (ct_i (C.length : Int)) (ct_i i) (ct_i ((0 : Nat) : Int)) (ct_hs C) kc ks (ct_i (A2 0 0)) (ct_c (A2 1)) (ct_c (A2 2)) (ct_a (A2 3)) (ct_c (A2 4)) (ct_a (A2 5)) (ct_a (A2 6)) (ct_c (A2 7)) (ct_c (A2 8)) (ct_a (A2 9)) (ct_a (A2 10)) (ct_c (A2 11)) (ct_c (A2 12)) (ct_a (A2 13)) (ct_c (A2 14)) (ct_c (A2 15)) (ct_c (A2 16)) (ct_i (B 0 0)) (ct_c (B 1)) (ct_c (B 2)) (ct_a (B 3)) (ct_c (B 4)) (ct_a (B 5)) (ct_a (B 6)) (ct_c (B 7)) (ct_c (B 8)) (ct_a (B 9)) (ct_a (B 10)) (ct_c (B 11)) (ct_c (B 12)) (ct_a (B 13)) (ct_c (B 14)) (ct_c (B 15)) (ct_c (B 16)) (ct_i (E 0 0)) (ct_c (E 1)) (ct_c (E 2)) (ct_a (E 3)) (ct_c (E 4)) (ct_a (E 5)) (ct_a (E 6)) (ct_c (E 7)) (ct_c (E 8)) (ct_a (E 9)) (ct_a (E 10)) (ct_c (E 11)) (ct_c (E 12)) (ct_a (E 13)) (ct_c (E 14)) (ct_c (E 15)) (ct_c (E 16))
      unfold wL_law_421
      refine br_f (by decide) ?_
      unfold wL_law_439
      refine ct_Oallr (k := 0) (X := C) hA2 (by omega) rfl (fun _ A3 hA3 => ?_)
      refine br_f (ct_hs_ne hC.2.1) ?_
      have g : ∀ X, (if (0 : Nat) = 0 then some C else R0) = some X → ct_hs C = ct_hs X := by
        intro X hX
        rw [if_pos rfl] at hX
        rw [Option.some.inj hX]
      exact ct_law_495 hA3 hB hE g h1 (fun A' B' E' a b c => hJ A' B' E' _ _ _ _ _ _ _ a b c g h1 (by omega))
    · refine ct_Oseen (k := 1) hA1 (by omega) (fun h => absurd h (by simp)) (fun X hX g0 g1 => ?_)
      rw [hn]
      refine br_t rfl (br_f (by decide) ?_)
      show wL_law_421 post L xs J s1 (ct_i (W.length : Int)) (ct_i (C.length : Int)) (ct_i i) (ct_i ((1 : Nat) : Int)) s0 kc ks (ct_i (A1 0 0)) (ct_c (A1 1)) (ct_c (A1 2)) (ct_a (A1 3)) (ct_c (A1 4)) (ct_a (A1 5)) (ct_a (A1 6)) (ct_c (A1 7)) (ct_c (A1 8)) (ct_a (A1 9)) (ct_a (A1 10)) (ct_c (A1 11)) (ct_c (A1 12)) (ct_a (A1 13)) (ct_c (A1 14)) (ct_c (A1 15)) (ct_c (A1 16)) (ct_i (B 0 0)) (ct_c (B 1)) (ct_c (B 2)) (ct_a (B 3)) (ct_c (B 4)) (ct_a (B 5)) (ct_a (B 6)) (ct_c (B 7)) (ct_c (B 8)) (ct_a (B 9)) (ct_a (B 10)) (ct_c (B 11)) (ct_c (B 12)) (ct_a (B 13)) (ct_c (B 14)) (ct_c (B 15)) (ct_c (B 16)) (ct_i (E 0 0)) (ct_c (E 1)) (ct_c (E 2)) (ct_a (E 3)) (ct_c (E 4)) (ct_a (E 5)) (ct_a (E 6)) (ct_c (E 7)) (ct_c (E 8)) (ct_a (E 9)) (ct_a (E 10)) (ct_c (E 11)) (ct_c (E 12)) (ct_a (E 13)) (ct_c (E 14)) (ct_c (E 15)) (ct_c (E 16))
      unfold wL_law_421
      refine br_t rfl ?_
      refine ct_Oallr (k := 1) (X := C) hA1 (by omega) rfl (fun _ A2 hA2 => ?_)
      show wL_law_439 post L xs J s0 (ct_i (W.length : Int)) (ct_i (C.length : Int)) (ct_i i) (ct_i ((1 : Nat) : Int)) (ct_hs C) kc ks (ct_i (A2 0 0)) (ct_c (A2 1)) (ct_c (A2 2)) (ct_a (A2 3)) (ct_c (A2 4)) (ct_a (A2 5)) (ct_a (A2 6)) (ct_c (A2 7)) (ct_c (A2 8)) (ct_a (A2 9)) (ct_a (A2 10)) (ct_c (A2 11)) (ct_c (A2 12)) (ct_a (A2 13)) (ct_c (A2 14)) (ct_c (A2 15)) (ct_c (A2 16)) (ct_i (B 0 0)) (ct_c (B 1)) (ct_c (B 2)) (ct_a (B 3)) (ct_c (B 4)) (ct_a (B 5)) (ct_a (B 6)) (ct_c (B 7)) (ct_c (B 8)) (ct_a (B 9)) (ct_a (B 10)) (ct_c (B 11)) (ct_c (B 12)) (ct_a (B 13)) (ct_c (B 14)) (ct_c (B 15)) (ct_c (B 16)) (ct_i (E 0 0)) (ct_c (E 1)) (ct_c (E 2)) (ct_a (E 3)) (ct_c (E 4)) (ct_a (E 5)) (ct_a (E 6)) (ct_c (E 7)) (ct_c (E 8)) (ct_a (E 9)) (ct_a (E 10)) (ct_c (E 11)) (ct_c (E 12)) (ct_a (E 13)) (ct_c (E 14)) (ct_c (E 15)) (ct_c (E 16))
      unfold wL_law_439
      refine ct_Oallr (k := 1) (X := C) hA2 (by omega) rfl (fun _ A3 hA3 => ?_)
      refine br_f (ct_hs_ne hC.2.1) ?_
      have g : ∀ X, (if (1 : Nat) = 1 then some C else R1) = some X → ct_hs C = ct_hs X := by
        intro X hX
        rw [if_pos rfl] at hX
        rw [Option.some.inj hX]
      exact ct_law_495 hA3 hB hE h0 g (fun A' B' E' a b c => hJ A' B' E' _ _ _ _ _ _ _ a b c h0 g (by omega))
  · -- erase
    refine ct_Ohas (A := A) hA hkey (fun hkk A1 hA1 => ?_) (fun hkk A1 hA1 => ?_)
    · exact br_f (by decide) (ct_law_219 hA1 hB hE h0 h1 hkey (Or.inl ⟨hkk, rfl⟩) (fun A' B' E' W' a b c => hJ A' B' E' _ _ _ _ _ _ _ a b c h0 h1 (by omega)))
    · exact br_t rfl (ct_law_219 hA1 hB hE h0 h1 hkey (Or.inr ⟨hkk, rfl⟩) (fun A' B' E' W' a b c => hJ A' B' E' _ _ _ _ _ _ _ a b c h0 h1 (by omega)))
  · -- put
    refine ct_Ohas (A := A) hA hkey (fun hkk A1 hA1 => ?_) (fun hkk A1 hA1 => ?_)
    · exact br_f (by decide) (ct_law_142 hA1 hB hE h0 h1 hkey hv hpar (Or.inl ⟨hkk, rfl⟩) (fun A' B' E' W' a b c => hJ A' B' E' _ _ _ _ _ _ _ a b c h0 h1 (by omega)))
    · refine br_t rfl ?_
      rw [ct_l24, ct_eq (by omega) (by omega) (by omega) (by omega)]
      refine br_c (fun hf => ?_) (fun hf => ?_)
      · exact ct_law_142 hA1 hB hE h0 h1 hkey hv hpar (Or.inr (Or.inr ⟨hkk, by omega, rfl⟩)) (fun A' B' E' W' a b c => hJ A' B' E' _ _ _ _ _ _ _ a b c h0 h1 (by omega))
      · exact ct_law_142 hA1 hB hE h0 h1 hkey hv hpar (Or.inr (Or.inl ⟨hkk, by omega, rfl⟩)) (fun A' B' E' W' a b c => hJ A' B' E' _ _ _ _ _ _ _ a b c h0 h1 (by omega))
end
section
/-! ===== 41: the law's loop; what is owed ===== -/
theorem ct_nI (n : Nat) : nI n = ct_i (n : Int) := Int32.ofInt_eq_ofNat.symm
theorem ct_law_39 {L : Nat} {xs : Nat → Int32} {kc ks : Nat} (hL : L ≤ 260) : ∀ (m : Nat) (i : Nat) (A B E : Nat → Int → Int) (W C : List ct_KV) (N : Int) (R0 R1 : Option (List ct_KV)) (s0 s1 : Int64), L < i + 2 * m → i ≤ L + 1 → N ≤ i → ct_Ob A W C N R0 R1 → ct_Ob B W C N none none → ct_Ob E W C N none none → (∀ X, R0 = some X → s0 = ct_hs X) → (∀ X, R1 = some X → s1 = ct_hs X) →
    wL_law_39 (fun r => r = 1) L xs kc ks (m + 1) s0 s1 (ct_i (W.length : Int)) (ct_i (C.length : Int)) (ct_i (i : Int)) (ct_i (A 0 0)) (ct_c (A 1)) (ct_c (A 2)) (ct_a (A 3)) (ct_c (A 4)) (ct_a (A 5)) (ct_a (A 6)) (ct_c (A 7)) (ct_c (A 8)) (ct_a (A 9)) (ct_a (A 10)) (ct_c (A 11)) (ct_c (A 12)) (ct_a (A 13)) (ct_c (A 14)) (ct_c (A 15)) (ct_c (A 16)) (ct_i (B 0 0)) (ct_c (B 1)) (ct_c (B 2)) (ct_a (B 3)) (ct_c (B 4)) (ct_a (B 5)) (ct_a (B 6)) (ct_c (B 7)) (ct_c (B 8)) (ct_a (B 9)) (ct_a (B 10)) (ct_c (B 11)) (ct_c (B 12)) (ct_a (B 13)) (ct_c (B 14)) (ct_c (B 15)) (ct_c (B 16)) (ct_i (E 0 0)) (ct_c (E 1)) (ct_c (E 2)) (ct_a (E 3)) (ct_c (E 4)) (ct_a (E 5)) (ct_a (E 6)) (ct_c (E 7)) (ct_c (E 8)) (ct_a (E 9)) (ct_a (E 10)) (ct_c (E 11)) (ct_c (E 12)) (ct_a (E 13)) (ct_c (E 14)) (ct_c (E 15)) (ct_c (E 16)) := by
  intro m
  have eL : (Int32.ofNat L) - 2 = ct_i ((L : Int) - 2) := by
    show nI L - ct_i 2 = _
    rw [ct_nI, ct_sub]
  induction m with
  | zero =>
    intro i A B E W C N R0 R1 s0 s1 hm hi hN hA hB hE h0 h1
    unfold wL_law_39
    rw [eL]
    refine br_t ?_ rfl
    rw [ct_lt (by omega) (by omega) (by omega) (by omega)]; omega
  | succ m ih =>
    intro i A B E W C N R0 R1 s0 s1 hm hi hN hA hB hE h0 h1
    unfold wL_law_39
    rw [eL, ct_lt (by omega) (by omega) (by omega) (by omega)]
    refine br_c (fun _ => rfl) (fun hlt => ?_)
    have e1 : ct_i (i : Int) + 1 = ct_i ((i : Int) + 1) := ct_add _ 1
    rw [e1]
    obtain ⟨op, hop, eop⟩ := pk_andE (xs (ct_i (i : Int)).toNatClampNeg) (m := 15) 4 (by decide)
    obtain ⟨v, hv, ev⟩ := pk_andE (xs (ct_i ((i : Int) + 1)).toNatClampNeg) (m := 1048575) 20 (by decide)
    refine ⟨ct_in (by omega) (by omega) (by omega), nm_r (e' := ct_i (op : Int)) (by rw [eop, ct_nI]) ⟨ct_in (by omega) (by omega) (by omega), nm_r (e' := nI v) ev ⟨by decide, ?_⟩⟩⟩
    have ek : (nI v &&& 255) - (nI v &&& 255) / 40 * 40 = ct_i ((v % 256 % 40 : Nat) : Int) := by
      rw [pk_andN (by omega) (m := 255) 8 (by decide)]
      have := pk_rem (a := v % 2 ^ 8) (d := 40) (by omega) (by omega) (by omega)
      rw [show (40 : Int32) = nI 40 from rfl, this, ct_nI]
    have er : (nI v >>> ((8 : Int32) &&& 31)) &&& 1 = ct_i ((v / 256 % 2 : Nat) : Int) := by
      rw [pk_shrN (by omega) ((8 : Int32) &&& 31) 8 (by decide), pk_andN (by omega) (m := 1) 1 (by decide), ct_nI]
    refine nm_r ek (nm_r er ?_)
    have hp39 : ∀ (z : Int32), z = (if (if v / 256 % 2 = 0 then R0 else R1) = none then 0 else 1) → wL_law_102 (fun r => r = 1) L xs (wL_law_39 (fun r => r = 1) L xs kc ks (m + 1)) s0 s1 (ct_i (W.length : Int)) (ct_i (C.length : Int)) (ct_i (i : Int)) (ct_i (op : Int)) (nI v) (ct_i ((v % 256 % 40 : Nat) : Int)) (ct_i ((v / 256 % 2 : Nat) : Int)) z kc ks (ct_i (A 0 0)) (ct_c (A 1)) (ct_c (A 2)) (ct_a (A 3)) (ct_c (A 4)) (ct_a (A 5)) (ct_a (A 6)) (ct_c (A 7)) (ct_c (A 8)) (ct_a (A 9)) (ct_a (A 10)) (ct_c (A 11)) (ct_c (A 12)) (ct_a (A 13)) (ct_c (A 14)) (ct_c (A 15)) (ct_c (A 16)) (ct_i (B 0 0)) (ct_c (B 1)) (ct_c (B 2)) (ct_a (B 3)) (ct_c (B 4)) (ct_a (B 5)) (ct_a (B 6)) (ct_c (B 7)) (ct_c (B 8)) (ct_a (B 9)) (ct_a (B 10)) (ct_c (B 11)) (ct_c (B 12)) (ct_a (B 13)) (ct_c (B 14)) (ct_c (B 15)) (ct_c (B 16)) (ct_i (E 0 0)) (ct_c (E 1)) (ct_c (E 2)) (ct_a (E 3)) (ct_c (E 4)) (ct_a (E 5)) (ct_a (E 6)) (ct_c (E 7)) (ct_c (E 8)) (ct_a (E 9)) (ct_a (E 10)) (ct_c (E 11)) (ct_c (E 12)) (ct_a (E 13)) (ct_c (E 14)) (ct_c (E 15)) (ct_c (E 16)) := by
      intro z hz
      rw [ct_nI]
      refine ct_law_102 (k := v / 256 % 2) hA hB hE h0 h1 (by omega) (by omega) (by omega) (by omega) (by omega) hz (by omega) (fun A' B' E' W' C' N' R0' R1' s0' s1' a b c g0 g1 gN => ?_)
      have := ih (i + 2) A' B' E' W' C' N' R0' R1' s0' s1' (by omega) (by omega) (by omega) a b c g0 g1
      rw [show ((i + 2 : Nat) : Int) = (i : Int) + 2 by omega] at this
      exact this
    refine ct_Oseen (k := v / 256 % 2) hA (by omega) (fun hn => ?_) (fun X hX g0 g1 => ?_)
    · refine br_t (by decide) (hp39 0 (by rw [if_pos hn]))
    · refine br_f ?_ (hp39 1 (by rw [hX]; rfl))
      rw [ct_l0, ct_lt (by omega) (by omega) (by omega) (by omega)]; omega
theorem i_vc (xs : Nat → Int32) (L : Nat) (hL : L ≤ 260) : wpL_law (fun r => r = 1) L xs := by
  unfold wpL_law
  refine ⟨16, 2036, by decide, by decide, ?_⟩
  refine ct_init ?_
  refine ⟨by decide, by decide, 16, 2036, by decide, by decide, ?_⟩
  refine ct_init ?_
  refine ⟨by decide, by decide, 16, 2036, by decide, by decide, ?_⟩
  refine ct_init ?_
  refine ⟨L + 2, ?_⟩
  exact ct_law_39 hL (L + 1) 0 ct_A0 ct_A0 ct_A0 [] [] 0 none none 0 0 (by omega) (by omega) (by omega) ct_Oinit ct_Oinit ct_Oinit (by simp) (by simp)
end

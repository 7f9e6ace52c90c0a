section
/-! shapes as naturals of three digits; the pure side -/
/-- the number of cells -/
def td_sz (s : Nat) : Nat := s / 100 + s / 10 % 10 + s % 10
/-- row i -/
def td_k (s i : Nat) : Nat := match i with
  | 0 => s / 100
  | 1 => s / 10 % 10
  | _ => s % 10
/-- a shape -/
def td_sb (s : Nat) : Bool := Nat.ble s 600 && (Nat.ble (s / 10 % 10) (s / 100) && (Nat.ble (s % 10) (s / 10 % 10) && Nat.ble (td_sz s) 6))
theorem td_sb_iff {s : Nat} : td_sb s = true ↔ s ≤ 600 ∧ s / 10 % 10 ≤ s / 100 ∧ s % 10 ≤ s / 10 % 10 ∧ td_sz s ≤ 6 := by
  unfold td_sb
  simp only [Bool.and_eq_true, Nat.ble_eq]
theorem td_no {s : Nat} (h : ¬ (s ≤ 600 ∧ s / 10 % 10 ≤ s / 100 ∧ s % 10 ≤ s / 10 % 10 ∧ td_sz s ≤ 6)) : td_sb s = false :=
  Bool.eq_false_iff.mpr (fun e => h (td_sb_iff.mp e))
theorem td_s6 {s : Nat} (h : td_sb s = true) : s ≤ 600 := (td_sb_iff.mp h).1
theorem td_z6 {s : Nat} (h : td_sb s = true) : td_sz s ≤ 6 := (td_sb_iff.mp h).2.2.2
theorem td_szb {s : Nat} (h : s ≤ 1000) : td_sz s ≤ 28 := by
  unfold td_sz
  omega
theorem td_k9 {s : Nat} (h : s ≤ 600) (i : Nat) : td_k s i ≤ 9 := by
  unfold td_k
  split <;> omega
theorem td_k6 {s : Nat} (h : td_sb s = true) (i : Nat) : td_k s i ≤ 6 := by
  have hz := td_z6 h
  unfold td_sz at hz
  unfold td_k
  split <;> omega
/-- all shapes -/
def td_all : List Nat := [0, 100, 110, 111, 200, 210, 211, 220, 221, 222, 300, 310, 311, 320, 321, 330, 400, 410, 411, 420, 500, 510, 600]
theorem td_mem0 : ∀ s, s < 601 → td_sb s = true → s ∈ td_all := by decide +kernel
theorem td_mem {s : Nat} (h : td_sb s = true) : s ∈ td_all := td_mem0 s (by have := td_s6 h; omega) h
/-! numbers -/
theorem td_d100 {s : Nat} (h : s ≤ 1000) : nI s / 100 = nI (s / 100) := pk_div (d := 100) (by omega) (by omega) (by omega)
theorem td_d10 {s : Nat} (h : s ≤ 1000) : nI s / 10 = nI (s / 10) := pk_div (d := 10) (by omega) (by omega) (by omega)
theorem td_mid {s : Nat} (h : s ≤ 1000) : nI s / 10 - nI s / 10 / 10 * 10 = nI (s / 10 % 10) := by
  rw [td_d10 h]
  exact pk_rem (d := 10) (by omega) (by omega) (by omega)
theorem td_mod {s : Nat} (h : s ≤ 1000) : nI s - nI s / 10 * 10 = nI (s % 10) := pk_rem (d := 10) (by omega) (by omega) (by omega)
theorem td_sum (s : Nat) : nI (s / 100) + nI (s / 10 % 10) + nI (s % 10) = nI (td_sz s) := by
  rw [nI_add, nI_add]
  rfl
theorem td_slt {a b r : Nat} (ha : a < 2 ^ 30) (hb : b < 2 ^ 30) (hr : r < 2 ^ 30) : nI a - nI b < nI r ↔ a < r + b := by
  rw [Int32.lt_iff_toInt_lt, pk_sub_toInt ha hb, nI_toInt (by omega)]
  omega
theorem td_lts {a b r : Nat} (ha : a < 2 ^ 30) (hb : b < 2 ^ 30) (hr : r < 2 ^ 30) : nI r < nI a - nI b ↔ r + b < a := by
  rw [Int32.lt_iff_toInt_lt, pk_sub_toInt ha hb, nI_toInt (by omega)]
  omega
theorem td_pm1 (x : Int32) : x + (-1) = x - 1 := (Int32.sub_eq_add_neg x 1).symm
theorem td_eqm1 {a b : Nat} (ha : a < 2 ^ 30) (hb : b < 2 ^ 30) : nI a = nI b - 1 ↔ a + 1 = b := by
  rw [← nI_eq (a := a + 1) (b := b) (by omega) (by omega), ← nI_1]
  constructor
  · intro e
    rw [e]
    grind
  · intro e
    rw [← e]
    grind
/-! the state: what is kept -/
def td_ar (a : Nat → Int32) (s : Nat) : Prop := a 0 = nI (s / 100) ∧ a 1 = nI (s / 10 % 10) ∧ a 2 = nI (s % 10)
def td_ku (u : St1) (s : Nat) : Prop := td_ar u.2.1 s
theorem td_ari {a : Nat → Int32} {s : Nat} (h : td_ar a s) {i : Nat} (hi : i < 3) : a i = nI (td_k s i) := by
  obtain ⟨h0, h1, h2⟩ := h
  match i, hi with
  | 0, _ => exact h0
  | 1, _ => exact h1
  | 2, _ => exact h2
theorem td_ar3 {a : Nat → Int32} {s : Nat} (h : s ≤ 1000) : td_ar (upd (upd (upd a 0 (nI s / 100)) 1 (nI s / 10 - nI s / 10 / 10 * 10)) 2 (nI s - nI s / 10 * 10)) s := by
  rw [td_d100 h, td_mid h, td_mod h]
  exact ⟨rfl, rfl, rfl⟩
/-! small methods -/
theorem td_Lsize {post : Int32 → Prop} {s : Nat} (h : s ≤ 1000) (H : post (nI (td_sz s))) : wpL_size post () (nI s) := by
  refine ⟨by decide, by decide, by decide, by decide, ?_⟩
  rw [td_d100 h, td_mid h, td_mod h, td_sum]
  exact H
theorem td_Xsize {post : Int32 → Prop} {s : Nat} (h : s ≤ 1000) (H : post (nI (td_sz s))) : wpX_size post () (nI s) := by
  refine ⟨by decide, by decide, by decide, by decide, ?_⟩
  rw [td_d100 h, td_mid h, td_mod h, td_sum]
  exact H
theorem td_LisShape {post : Int32 → Prop} {s : Nat} (hs : s ≤ 600) (h1 : td_sb s = true → post 1) (h0 : td_sb s = false → post 0) : wpL_isShape post () (nI s) := by
  have h : s ≤ 1000 := by omega
  have hz := td_szb h
  unfold wpL_isShape
  rw [td_d100 h, td_mid h, td_mod h]
  refine ⟨by decide, nm_e ⟨by decide, by decide, nm_e ⟨by decide, nm_e ?_⟩⟩⟩
  rw [td_sum]
  exact pk_lt (s / 100) (s / 10 % 10) (fun z => h0 (td_no (by omega))) (fun z => pk_lt (s / 10 % 10) (s % 10) (fun z1 => h0 (td_no (by omega))) (fun z1 => pk_lt 6 (td_sz s) (fun z2 => h0 (td_no (by omega))) (fun z2 => h1 (td_sb_iff.mpr ⟨hs, z, z1, z2⟩))))
theorem td_XisShape {post : Int32 → Prop} {s : Nat} (hs : s ≤ 600) (h1 : td_sb s = true → post 1) (h0 : td_sb s = false → post 0) : wpX_isShape post () (nI s) := by
  have h : s ≤ 1000 := by omega
  have hz := td_szb h
  unfold wpX_isShape
  rw [td_d100 h, td_mid h, td_mod h]
  refine pk_lt s 0 (fun z => absurd z (by omega)) (fun _ => pk_le s 600 (fun _ => ⟨by decide, by decide, nm_e ⟨by decide, ?_⟩⟩) (fun z => absurd z (by omega)))
  exact pk_lt (s / 100) (s / 10 % 10) (fun z => h0 (td_no (by omega))) (fun z => ⟨by decide, pk_lt (s / 10 % 10) (s % 10) (fun z1 => h0 (td_no (by omega))) (fun z1 => td_Xsize h (pk_lt 6 (td_sz s) (fun z2 => h0 (td_no (by omega))) (fun z2 => h1 (td_sb_iff.mpr ⟨hs, z, z1, z2⟩))))⟩)
theorem td_Xyes {post : Int32 → Prop} {s : Nat} (hs : td_sb s = true) (h1 : post 1) : wpX_isShape post () (nI s) :=
  td_XisShape (td_s6 hs) (fun _ => h1) (fun e => absurd (hs.symm.trans e) (by decide))
theorem td_keep {post : Int32 → St1 → Prop} {u : St1} {s : Nat} (hs : td_sb s = true) (H : ∀ u', td_ku u' s → post (nI (td_sz s)) u') : wpX_keep post u (nI s) := by
  obtain ⟨f, a1, a2, a3, a4, a5, a6, a7⟩ := u
  have h : s ≤ 1000 := by have := td_s6 hs; omega
  unfold wpX_keep
  dsimp only
  exact td_Xyes hs (br_f (by decide) ⟨by decide, nm_e ⟨by decide, by decide, nm_e ⟨by decide, nm_e (td_Xsize h (H _ (td_ar3 h)))⟩⟩⟩)
theorem td_keptSize {post : Int32 → Prop} {u : St1} {s : Nat} (hk : td_ku u s) (H : post (nI (td_sz s))) : wpX_keptSize post u := by
  obtain ⟨f, a1, a2, a3, a4, a5, a6, a7⟩ := u
  obtain ⟨h0, h1, h2⟩ : td_ar a1 s := hk
  show post (a1 0 + a1 1 + a1 2)
  rw [h0, h1, h2, td_sum]
  exact H
/-- the number of fillings -/
def td_dim (s : Nat) : Nat := (s / 100 - s / 10 % 10 + 1) * (s / 10 % 10 - s % 10 + 1) * (s / 100 - s % 10 + 2) / 2
theorem td_dimI : ∀ s, s ∈ td_all → ((nI (s / 100) - nI (s / 10 % 10) + 1) * (nI (s / 10 % 10) - nI (s % 10) + 1)) * (nI (s / 100) - nI (s % 10) + 2) / 2 = nI (td_dim s) := by decide +kernel
theorem td_fillings {post : Int32 → Prop} {u : St1} {s : Nat} (hs : td_sb s = true) (hk : td_ku u s) (H : post (nI (td_dim s))) : wpX_fillings post u := by
  obtain ⟨f, a1, a2, a3, a4, a5, a6, a7⟩ := u
  obtain ⟨h0, h1, h2⟩ : td_ar a1 s := hk
  unfold wpX_fillings
  dsimp only
  refine nm_e ⟨by decide, ?_⟩
  rw [h0, h1, h2, td_dimI s (td_mem hs)]
  exact H
theorem td_shape {post : Int32 → Prop} (x : Int32) (H : ∀ s, td_sb s = true → post (nI s)) : wpL_shape post () x := by
  refine ⟨by decide, fun y _ => ?_⟩
  exact pk_loop (σ := Int32) (fun n i t => wL_shape_11 post n t (nI i)) (fun _ _ => True) 601 0 y (by omega) trivial
    (fun n t _ => pk_lt 600 601 (fun _ => H 0 (by decide)) (fun z => absurd z (by omega)))
    (fun n i t hi _ hw => pk_lt 600 i (fun z => absurd z (by omega)) (fun _ => td_LisShape (by omega)
      (fun e => br_f (by decide) (br_c (fun _ => H i e) (fun _ => nm_e (nm_r (nI_1 i) (hw _ trivial)))))
      (fun _ => br_t rfl (nm_r (nI_1 i) (hw _ trivial)))))
end
section
/-! withContent: the numbers of cells that are left interlace -/
theorem td_isContent {post : Int32 → Prop} {c : Nat} (hc : c ≤ 666) (h1 : c / 10 % 10 ≤ 6) (h2 : c % 10 ≤ 6) (H : post 1) : wpX_isContent post () (nI c) := by
  have h : c ≤ 1000 := by omega
  unfold wpX_isContent
  rw [td_mid h, td_mod h]
  exact pk_lt c 0 (fun z => absurd z (by omega)) (fun _ => pk_lt 666 c (fun z => absurd z (by omega)) (fun _ => ⟨by decide, by decide, pk_lt 6 (c / 10 % 10) (fun z => absurd z (by omega)) (fun _ => ⟨by decide, pk_lt 6 (c % 10) (fun z => absurd z (by omega)) (fun _ => H)⟩)⟩))
def td_wb (K c1 c2 v : Nat) : Bool := Nat.ble (K % 10 + v) (c1 + c2) && (Nat.ble (c1 + c2) (K / 10 % 10 + v) && (Nat.ble c2 v && Nat.ble c1 v))
theorem td_wb_iff {K c1 c2 v : Nat} : td_wb K c1 c2 v = true ↔ K % 10 + v ≤ c1 + c2 ∧ c1 + c2 ≤ K / 10 % 10 + v ∧ c2 ≤ v ∧ c1 ≤ v := by
  unfold td_wb
  simp only [Bool.and_eq_true, Nat.ble_eq]
def td_w1 (K c1 c2 v : Nat) : Nat := bif td_wb K c1 c2 v then 1 else 0
theorem td_w1_1 {K c1 c2 v : Nat} (h : K % 10 + v ≤ c1 + c2 ∧ c1 + c2 ≤ K / 10 % 10 + v ∧ c2 ≤ v ∧ c1 ≤ v) : td_w1 K c1 c2 v = 1 := by
  unfold td_w1
  rw [td_wb_iff.mpr h]
  rfl
theorem td_w1_0 {K c1 c2 v : Nat} (h : ¬ (K % 10 + v ≤ c1 + c2 ∧ c1 + c2 ≤ K / 10 % 10 + v ∧ c2 ≤ v ∧ c1 ≤ v)) : td_w1 K c1 c2 v = 0 := by
  unfold td_w1
  rw [show td_wb K c1 c2 v = false from Bool.eq_false_iff.mpr (fun e => h (td_wb_iff.mp e))]
  rfl
def td_ws (K c1 c2 : Nat) : Nat → Nat
  | 0 => 0
  | k + 1 => td_ws K c1 c2 k + td_w1 K c1 c2 (K / 10 % 10 + k)
def td_wc (K c : Nat) : Nat := if td_sz c = td_sz K then td_ws K (c / 100) (c / 10 % 10) (K / 100 + 1 - K / 10 % 10) else 0
theorem td_wstep {post : Int32 → Prop} {J : Int32 → Int32 → Prop} {f : Int32} {a1 a2 a3 a4 a5 a6 a7 : Nat → Int32} {K c1 c2 v m : Nat} (hk : td_ar a1 K) (hK : K ≤ 600) (h1 : c1 ≤ 9) (h2 : c2 ≤ 9) (hv : v ≤ 20) (hJ : J (nI (m + td_w1 K c1 c2 v)) (nI (v + 1))) :
    ∀ x6 : Int32, x6 = (nI c1 + nI c2) - nI v → ((x6 < a1 2 → wX_withContent_111 post J (nI c1) (nI c2) (nI m) (nI v) x6 f a1 a2 a3 a4 a5 a6 a7) ∧ (¬ x6 < a1 2 → ((a1 1 < x6 → wX_withContent_111 post J (nI c1) (nI c2) (nI m) (nI v) x6 f a1 a2 a3 a4 a5 a6 a7) ∧ (¬ a1 1 < x6 → wX_withContent_112 post J (nI c1) (nI c2) (nI m) (nI v) x6 1 f a1 a2 a3 a4 a5 a6 a7)))) := by
  obtain ⟨_, e1, e2⟩ := hk
  have N : ¬ (K % 10 + v ≤ c1 + c2 ∧ c1 + c2 ≤ K / 10 % 10 + v ∧ c2 ≤ v ∧ c1 ≤ v) → J (nI m + 0) (nI v + 1) := by
    intro h
    rw [td_w1_0 h, Nat.add_zero] at hJ
    rw [Int32.add_zero, nI_1]
    exact hJ
  rw [nI_add, e1, e2]
  refine nm_e (ek_if (td_slt (by omega) (by omega) (by omega)) (fun z => ?_) (fun z => ek_if (td_lts (by omega) (by omega) (by omega)) (fun z1 => ?_) (fun z1 => ?_)))
  · unfold wX_withContent_111
    unfold wX_withContent_112
    exact br_t rfl (nm_e (nm_e (N (by omega))))
  · unfold wX_withContent_111
    unfold wX_withContent_112
    exact br_t rfl (nm_e (nm_e (N (by omega))))
  · unfold wX_withContent_112
    refine br_f (by decide) (ek_if (td_lts (by omega) (by omega) (by omega)) (fun z2 => nm_e (nm_e (N (by omega)))) (fun z2 => pk_lt v c1 (fun z3 => nm_e (nm_e (N (by omega)))) (fun z3 => nm_r (nI_1 m) (nm_r (nI_1 v) ?_))))
    rw [td_w1_1 (by omega)] at hJ
    exact hJ
theorem td_withContent {post : Int32 → Prop} {u : St1} {K c : Nat} (hK : td_sb K = true) (hk : td_ku u K) (hc : c ≤ 666) (h1 : c / 10 % 10 ≤ 6) (h2 : c % 10 ≤ 6) (H : post (nI (td_wc K c))) : wpX_withContent post u (nI c) := by
  obtain ⟨f, a1, a2, a3, a4, a5, a6, a7⟩ := u
  have hk' : td_ar a1 K := hk
  obtain ⟨e0, e1, e2⟩ := hk
  have e0 : a1 0 = nI (K / 100) := e0
  have e1 : a1 1 = nI (K / 10 % 10) := e1
  have e2 : a1 2 = nI (K % 10) := e2
  have h : c ≤ 1000 := by omega
  obtain ⟨k6, kq, _, kz⟩ := td_sb_iff.mp hK
  have cz := td_szb h
  unfold wpX_withContent
  dsimp only
  refine td_isContent hc h1 h2 (br_f (by decide) ⟨by decide, nm_r (td_d100 h) ⟨by decide, by decide, nm_r (td_mid h) ⟨by decide, ?_⟩⟩⟩)
  rw [td_mod h, td_sum, e0, e1, e2, td_sum]
  refine pk_eq (td_sz c) (td_sz K) (fun z => nm_e ?_) (fun z => ?_)
  · have E : td_wc K c = td_ws K (c / 100) (c / 10 % 10) (K / 100 + 1 - K / 10 % 10) := if_pos z
    rw [E] at H
    exact loop_0 (σ := Int32) (fun n i s => wX_withContent_66 post (nI (c / 100)) (nI (c / 10 % 10)) f a1 a2 a3 a4 a5 a6 a7 n s (nI (K / 10 % 10 + i))) (fun i s => s = nI (td_ws K (c / 100) (c / 10 % 10) i)) (K / 100 + 1 - K / 10 % 10) 0 rfl
      (fun n s e => pk_lt (K / 100) (K / 10 % 10 + (K / 100 + 1 - K / 10 % 10)) (fun _ => by rw [show s = nI (td_ws K (c / 100) (c / 10 % 10) (K / 100 + 1 - K / 10 % 10)) from e]; exact H) (fun z => absurd z (by omega)) e0)
      (fun n i s hi e hw => pk_lt (K / 100) (K / 10 % 10 + i) (fun z => absurd z (by omega)) (fun _ => by
        have e' : s = nI (td_ws K (c / 100) (c / 10 % 10) i) := e
        rw [e']
        exact td_wstep hk' k6 (by omega) (by omega) (by omega) (hw (nI (td_ws K (c / 100) (c / 10 % 10) (i + 1))) rfl)) e0)
  · have E : td_wc K c = 0 := if_neg z
    rw [E] at H
    exact H
/-! orders: the hooks -/
def td_hs (K j k0 : Nat) : Nat → Nat
  | 0 => 0
  | m + 1 => td_hs K j k0 m + (if j < td_k K (k0 + m) then 1 else 0)
def td_hook (K i j : Nat) : Nat := td_k K i - j + td_hs K j (i + 1) (2 - i)
theorem td_hookW {post : Int32 → Prop} {f : Int32} {a1 a2 a3 a4 a5 a6 a7 : Nat → Int32} {K i j : Nat} (hk : td_ar a1 K) (hK : K ≤ 600) (hi : i < 3) (hj : j ≤ td_k K i) (H : post (nI (td_hook K i j))) : wpX_hook post (f, a1, a2, a3, a4, a5, a6, a7) (nI i) (nI j) := by
  have k9 := td_k9 hK
  have ki := k9 i
  unfold wpX_hook
  dsimp only
  refine ⟨pk_in i 3 hi, ?_⟩
  rw [nI_clamp (by omega), td_ari hk hi, pk_sub hj]
  refine nm_e (nm_r (nI_1 i) ?_)
  refine loop_0 (σ := Int32) (fun n m s => wX_hook_14 post (nI j) f a1 a2 a3 a4 a5 a6 a7 n s (nI (i + 1 + m))) (fun m s => s = nI (td_k K i - j + td_hs K j (i + 1) m)) (2 - i) (nI (td_k K i - j)) rfl ?_ ?_
  · intro n s e
    have e' : s = nI (td_hook K i j) := e
    rw [e']
    exact pk_le 3 (i + 1 + (2 - i)) (fun _ => H) (fun z => absurd z (by omega))
  · intro n m s hm e hw
    have e' : s = nI (td_k K i - j + td_hs K j (i + 1) m) := e
    rw [e']
    have T : td_hs K j (i + 1) (m + 1) = td_hs K j (i + 1) m + (if j < td_k K (i + 1 + m) then 1 else 0) := rfl
    have km := k9 (i + 1 + m)
    have hm3 : i + 1 + m < 3 := by omega
    refine pk_le 3 (i + 1 + m) (fun z => absurd z (by omega)) (fun _ => ⟨pk_in (i + 1 + m) 3 hm3, ?_⟩)
    rw [nI_clamp (by omega), td_ari hk hm3]
    refine pk_le (td_k K (i + 1 + m)) j (fun z => nm_r (Int32.add_zero _) (nm_r (nI_1 _) ?_)) (fun z => nm_r (nI_1 _) (nm_r (nI_1 _) ?_))
    · refine hw (nI (td_k K i - j + td_hs K j (i + 1) m)) ?_
      show nI (td_k K i - j + td_hs K j (i + 1) m) = nI (td_k K i - j + td_hs K j (i + 1) (m + 1))
      rw [T, if_neg (by omega)]
      rfl
    · refine hw (nI (td_k K i - j + td_hs K j (i + 1) m + 1)) ?_
      show nI (td_k K i - j + td_hs K j (i + 1) m + 1) = nI (td_k K i - j + td_hs K j (i + 1) (m + 1))
      rw [T, if_pos z, Nat.add_assoc]
def td_fa : Nat → Nat
  | 0 => 1
  | n + 1 => td_fa n * (n + 1)
def td_hp (K i : Nat) : Nat → Nat
  | 0 => 1
  | j + 1 => td_hp K i j * td_hook K i j
theorem td_o18 {post : Int32 → Prop} {J : Int32 → Int32 → Int32 → Int32 → Prop} {f : Int32} {a1 a2 a3 a4 a5 a6 a7 : Nat → Int32} {K i n0 h0 : Nat} (hk : td_ar a1 K) (hK : K ≤ 600) (hi : i < 3)
    (H : J (nI (n0 + td_k K i)) (nI (td_fa (n0 + td_k K i))) (nI (h0 * td_hp K i (td_k K i))) (nI (i + 1))) : ∃ n, wX_orders_18 post J (nI i) f a1 a2 a3 a4 a5 a6 a7 n (nI n0) (nI (td_fa n0)) (nI h0) 0 := by
  have ki := td_k9 hK i
  refine loop_0 (σ := Int32 × Int32 × Int32) (fun n j s => wX_orders_18 post J (nI i) f a1 a2 a3 a4 a5 a6 a7 n s.1 s.2.1 s.2.2 (nI j)) (fun j s => s = (nI (n0 + j), nI (td_fa (n0 + j)), nI (h0 * td_hp K i j))) (td_k K i) (nI n0, nI (td_fa n0), nI h0) ?_ ?_ ?_
  · show (nI n0, nI (td_fa n0), nI h0) = (nI n0, nI (td_fa n0), nI (h0 * 1))
    rw [Nat.mul_one]
  · intro n s e
    have e' : s = (nI (n0 + td_k K i), nI (td_fa (n0 + td_k K i)), nI (h0 * td_hp K i (td_k K i))) := e
    subst e'
    refine ⟨pk_in i 3 hi, ?_⟩
    rw [nI_clamp (by omega), td_ari hk hi]
    exact pk_le (td_k K i) (td_k K i) (fun _ => nm_r (nI_1 i) H) (fun z => absurd z (by omega))
  · intro n j s hj e hw
    have e' : s = (nI (n0 + j), nI (td_fa (n0 + j)), nI (h0 * td_hp K i j)) := e
    subst e'
    refine ⟨pk_in i 3 hi, ?_⟩
    rw [nI_clamp (by omega), td_ari hk hi]
    refine pk_le (td_k K i) j (fun z => absurd z (by omega)) (fun _ => nm_r (nI_1 (n0 + j)) (nm_r (pk_mul _ _) (td_hookW hk hK hi (by omega) (nm_r (pk_mul _ _) (nm_r (nI_1 j) ?_)))))
    refine hw (nI (n0 + (j + 1)), nI (td_fa (n0 + (j + 1))), nI (h0 * td_hp K i j * td_hook K i j)) ?_
    show (nI (n0 + (j + 1)), nI (td_fa (n0 + (j + 1))), nI (h0 * td_hp K i j * td_hook K i j)) = (nI (n0 + (j + 1)), nI (td_fa (n0 + (j + 1))), nI (h0 * (td_hp K i j * td_hook K i j)))
    rw [Nat.mul_assoc]
def td_oN (K : Nat) : Nat := 0 + td_k K 0 + td_k K 1 + td_k K 2
def td_oH (K : Nat) : Nat := 1 * td_hp K 0 (td_k K 0) * td_hp K 1 (td_k K 1) * td_hp K 2 (td_k K 2)
def td_or (K : Nat) : Nat := td_fa (td_oN K) / td_oH K
theorem td_orI : ∀ K, K ∈ td_all → ¬ nI (td_oH K) = 0 ∧ nI (td_fa (td_oN K)) / nI (td_oH K) = nI (td_or K) := by decide +kernel
theorem td_orders {post : Int32 → Prop} {u : St1} {K : Nat} (hK : td_sb K = true) (hk : td_ku u K) (H : post (nI (td_or K))) : wpX_orders post u := by
  obtain ⟨f, a1, a2, a3, a4, a5, a6, a7⟩ := u
  have hk' : td_ar a1 K := hk
  have k6 := td_s6 hK
  obtain ⟨o1, o2⟩ := td_orI K (td_mem hK)
  rw [← o2] at H
  refine ⟨4, ?_⟩
  refine pk_le 3 0 (fun z => absurd z (by omega)) (fun _ => td_o18 (n0 := 0) (h0 := 1) (i := 0) hk' k6 (by omega) ?_)
  refine pk_le 3 1 (fun z => absurd z (by omega)) (fun _ => td_o18 (i := 1) hk' k6 (by omega) ?_)
  refine pk_le 3 2 (fun z => absurd z (by omega)) (fun _ => td_o18 (i := 2) hk' k6 (by omega) ?_)
  exact pk_le 3 3 (fun _ => ⟨o1, H⟩) (fun z => absurd z (by omega))
/-! contents -/
def td_mo : Nat → Nat
  | 0 => 1
  | m + 1 => td_mo m * (2 + m)
theorem td_orL : ∀ K, K ∈ td_all → 1 ≤ td_or K ∧ td_or K ≤ td_mo (td_sz K - 1) ∧ td_mo (td_sz K - 1) ≤ 720 ∧ (K % 100 = 0 → td_or K = 1) := by decide +kernel
theorem td_c100 {post : Int32 → St1 → Prop} {f : Int32} {a1 a2 a3 a4 a5 a6 a7 : Nat → Int32} {K : Nat} (hK : td_sb K = true) (hk : td_ar a1 K) (H : post 1 (f, a1, a2, a3, a4, a5, a6, a7)) : ∃ n, wL_contents_100 post (nI K) f a1 a2 a3 a4 a5 a6 a7 n 1 2 := by
  obtain ⟨o1, o2, o3, o4⟩ := td_orL K (td_mem hK)
  have k6 := td_s6 hK
  have kz := td_z6 hK
  have k10 : K ≤ 1000 := by omega
  have hk' : td_ku (f, a1, a2, a3, a4, a5, a6, a7) K := hk
  have E : nI K - nI K / 100 * 100 = nI (K % 100) := pk_rem (d := 100) (by omega) (by omega) (by omega)
  refine loop_0 (σ := Int32) (fun n m s => wL_contents_100 post (nI K) f a1 a2 a3 a4 a5 a6 a7 n s (nI (2 + m))) (fun m s => s = nI (td_mo m)) (td_sz K - 1) 1 rfl ?_ ?_
  · intro n s e
    have e' : s = nI (td_mo (td_sz K - 1)) := e
    subst e'
    show wL_contents_100 post (nI K) f a1 a2 a3 a4 a5 a6 a7 (n + 1) (nI (td_mo (td_sz K - 1))) (nI (2 + (td_sz K - 1)))
    unfold wL_contents_100
    refine td_Lsize k10 (pk_lt (td_sz K) (2 + (td_sz K - 1)) (fun _ => td_orders hK hk' (pk_lt (td_or K) 1 (fun z => absurd z (by omega)) (fun _ => pk_lt (td_mo (td_sz K - 1)) (td_or K) (fun z => absurd z (by omega)) (fun _ => ⟨by decide, ?_⟩)))) (fun z => absurd z (by omega)))
    rw [E]
    exact pk_eq (K % 100) 0 (fun z => br_t (by rw [o4 z]; rfl) H) (fun _ => H)
  · intro n m s hm e hw
    have e' : s = nI (td_mo m) := e
    subst e'
    show wL_contents_100 post (nI K) f a1 a2 a3 a4 a5 a6 a7 (n + 1) (nI (td_mo m)) (nI (2 + m))
    unfold wL_contents_100
    exact td_Lsize k10 (pk_lt (td_sz K) (2 + m) (fun z => absurd z (by omega)) (fun _ => nm_r (pk_mul _ _) (nm_r (nI_1 _) (hw _ rfl))))
theorem td_dec (x y z : Nat) : 100 * nI x + 10 * nI y + nI z = nI (100 * x + 10 * y + z) := by
  rw [← nI_add, ← nI_add, ← pk_mul, ← pk_mul]
  rfl
theorem td_sym : ∀ K, K ∈ td_all → ∀ x, x < 7 → ∀ y, y < 7 → ∀ z, z < 7 → td_wc K (100 * x + 10 * y + z) ≤ 100 ∧ td_wc K (100 * x + 10 * y + z) = td_wc K (100 * y + 10 * x + z) ∧ td_wc K (100 * x + 10 * y + z) = td_wc K (100 * z + 10 * y + x) ∧ td_wc K (100 * x + 10 * y + z) = td_wc K (100 * y + 10 * z + x) := by decide +kernel
theorem td_contents {post : Int32 → St1 → Prop} {u : St1} {K x y z : Nat} (hK : td_sb K = true) (hx : x < 7) (hy : y < 7) (hz : z < 7) (H : ∀ u', post 1 u') : wpL_contents post u (nI K) (nI x) (nI y) (nI z) := by
  obtain ⟨f, a1, a2, a3, a4, a5, a6, a7⟩ := u
  obtain ⟨s0, s1, s2, s3⟩ := td_sym K (td_mem hK) x hx y hy z hz
  unfold wpL_contents
  dsimp only
  rw [td_dec, td_dec, td_dec, td_dec]
  refine td_keep hK (fun u' hk => ?_)
  obtain ⟨g, b1, b2, b3, b4, b5, b6, b7⟩ := u'
  dsimp only
  refine td_withContent hK hk (by omega) (by omega) (by omega) (pk_lt (td_wc K (100 * x + 10 * y + z)) 0 (fun w => absurd w (by omega)) (fun _ => ?_))
  refine td_withContent hK hk (by omega) (by omega) (by omega) (br_t (congrArg nI s1) ?_)
  refine td_withContent hK hk (by omega) (by omega) (by omega) (br_t (congrArg nI s2) ?_)
  refine td_withContent hK hk (by omega) (by omega) (by omega) (br_t (congrArg nI s3) ?_)
  exact td_c100 hK hk (H _)
end
section
/-! listCells: what stands in rowOf, placeOf, number and counts -/
/-- the first n cells: rows R, places P, no number yet -/
def td_cs (R P : Nat → Nat) (n : Nat) (a4 a5 a6 : Nat → Int32) : Prop := ∀ k, k < n → a4 k = nI (R k) ∧ a5 k = nI (P k) ∧ a6 k = 0
theorem td_cs0 {R P : Nat → Nat} {a4 a5 a6 : Nat → Int32} : td_cs R P 0 a4 a5 a6 := fun k hk => absurd hk (by omega)
theorem td_csadd {R P : Nat → Nat} {n : Nat} {a4 a5 a6 : Nat → Int32} {x y : Int32} (h : td_cs R P n a4 a5 a6) (hx : x = nI (R n)) (hy : y = nI (P n)) : td_cs R P (n + 1) (upd a4 n x) (upd a5 n y) (upd a6 n 0) := by
  intro k hk
  by_cases e : k = n
  · rw [e, pk_us, pk_us, pk_us]
    exact ⟨hx, hy, rfl⟩
  · rw [pk_un e, pk_un e, pk_un e]
    exact h k (by omega)
theorem td_l85 {post : St1 → Prop} {f : Int32} {a1 a2 a3 a4 a5 a6 a7 : Nat → Int32} (H : ∀ b7 : Nat → Int32, (∀ k, k < 4 → b7 k = 0) → post (f, a1, a2, a3, a4, a5, a6, b7)) : ∃ n, wX_listCells_85 post f n 0 a1 a2 a3 a4 a5 a6 a7 := by
  refine loop_0 (σ := Nat → Int32) (fun n i s => wX_listCells_85 post f n (nI i) a1 a2 a3 a4 a5 a6 s) (fun i s => ∀ k, k < i → s k = 0) 4 a7 (fun k hk => absurd hk (by omega)) ?_ ?_
  · intro n s h
    exact pk_le 4 4 (fun _ => H s h) (fun z => absurd z (by omega))
  · intro n i s hi h hw
    refine pk_le 4 i (fun z => absurd z (by omega)) (fun _ => ⟨pk_in i 4 hi, nm_e (nm_r (nI_1 i) (hw _ ?_))⟩)
    rw [nI_clamp (by omega)]
    intro k hk
    by_cases e : k = i
    · rw [e, pk_us]
    · rw [pk_un e]
      exact h k (by omega)
theorem td_l21 {post : St1 → Prop} {J : Int32 → Int32 → (Nat → Int32) → (Nat → Int32) → (Nat → Int32) → (Nat → Int32) → (Nat → Int32) → (Nat → Int32) → (Nat → Int32) → Prop} {a1 a2 a3 a4 a5 a6 a7 : Nat → Int32} {R P : Nat → Nat} {i o m lo : Nat}
    (hi : i < 3) (ho : o + m ≤ 6) (hl : lo + m ≤ 9) (he : a1 i = nI lo) (hR : ∀ t, t < m → R (o + t) = i ∧ P (o + t) = lo + m - 1 - t) (h : td_cs R P o a4 a5 a6)
    (H : ∀ b4 b5 b6 : Nat → Int32, td_cs R P (o + m) b4 b5 b6 → J (nI (i + 1)) (nI (o + m)) a1 a2 a3 b4 b5 b6 a7) : ∃ n, wX_listCells_21 post J (nI i) n (nI (lo + m) - 1) (nI o) a1 a2 a3 a4 a5 a6 a7 := by
  refine loop_0 (σ := (Nat → Int32) × (Nat → Int32) × (Nat → Int32)) (fun n t s => wX_listCells_21 post J (nI i) n (nI (lo + m - t) - 1) (nI (o + t)) a1 a2 a3 s.1 s.2.1 s.2.2 a7) (fun t s => td_cs R P (o + t) s.1 s.2.1 s.2.2) m (a4, a5, a6) h ?_ ?_
  · intro n s hs
    refine ⟨pk_in i 3 hi, ?_⟩
    rw [nI_clamp (by omega), he]
    exact br_t ((td_slt (a := lo + m - m) (b := 1) (r := lo) (by omega) (by omega) (by omega)).mpr (by omega)) (nm_r (nI_1 i) (H _ _ _ hs))
  · intro n t s ht hs hw
    have hs' : td_cs R P (o + t) s.1 s.2.1 s.2.2 := hs
    obtain ⟨r1, r2⟩ := hR t ht
    have E : nI (lo + m - t) - 1 = nI (lo + m - 1 - t) := by
      rw [show lo + m - t = (lo + m - 1 - t) + 1 by omega, nI_pred]
    have E2 : nI (lo + m - 1 - t) + (-1) = nI (lo + m - (t + 1)) - 1 := by
      rw [td_pm1, show lo + m - 1 - t = lo + m - (t + 1) by omega]
    refine ⟨pk_in i 3 hi, ?_⟩
    rw [E, nI_clamp (show i < 2 ^ 31 by omega), he, nI_clamp (show o + t < 2 ^ 31 by omega)]
    refine pk_lt (lo + m - 1 - t) lo (fun z => absurd z (by omega)) (fun _ => ⟨pk_in (o + t) 6 (by omega), nm_e ⟨pk_in (o + t) 6 (by omega), nm_e ⟨pk_in (o + t) 6 (by omega), nm_e (nm_r (nI_1 (o + t)) (nm_r E2 ?_))⟩⟩⟩)
    exact hw (upd s.1 (o + t) (nI i), upd s.2.1 (o + t) (nI (lo + m - 1 - t)), upd s.2.2 (o + t) 0) (td_csadd hs' (congrArg nI r1.symm) (congrArg nI r2.symm))
/-! the larger shape's cells that the kept one has not -/
def td_m (K S i : Nat) : Nat := td_k S i - td_k K i
def td_n (K S : Nat) : Nat := td_m K S 0 + td_m K S 1 + td_m K S 2
def td_R (K S k : Nat) : Nat := if k < td_m K S 0 then 0 else if k < td_m K S 0 + td_m K S 1 then 1 else 2
def td_P (K S k : Nat) : Nat := if k < td_m K S 0 then td_k S 0 - 1 - k else if k < td_m K S 0 + td_m K S 1 then td_k S 1 - 1 - (k - td_m K S 0) else td_k S 2 - 1 - (k - (td_m K S 0 + td_m K S 1))
theorem td_R2 (K S k : Nat) : td_R K S k ≤ 2 := by
  unfold td_R
  split
  · omega
  · split <;> omega
theorem td_P9 {S : Nat} (hS : S ≤ 600) (K k : Nat) : td_P K S k ≤ 9 := by
  have h0 := td_k9 hS 0
  have h1 := td_k9 hS 1
  have h2 := td_k9 hS 2
  unfold td_P
  split
  · omega
  · split <;> omega
theorem td_l7 {post : St1 → Prop} {a1 a2 a3 a4 a5 a6 a7 : Nat → Int32} {K S i o n : Nat} (hk : td_ar a1 K) (hs : td_ar a2 S) (hS : S ≤ 600) (hi : i < 3) (hle : td_k K i ≤ td_k S i) (ho : o + td_m K S i ≤ 6)
    (hR : ∀ t, t < td_m K S i → td_R K S (o + t) = i ∧ td_P K S (o + t) = td_k S i - 1 - t) (h : td_cs (td_R K S) (td_P K S) o a4 a5 a6)
    (H : ∀ b4 b5 b6 : Nat → Int32, td_cs (td_R K S) (td_P K S) (o + td_m K S i) b4 b5 b6 → wX_listCells_7 post n (nI (i + 1)) (nI (o + td_m K S i)) a1 a2 a3 b4 b5 b6 a7) : wX_listCells_7 post (n + 1) (nI i) (nI o) a1 a2 a3 a4 a5 a6 a7 := by
  have k9 := td_k9 hS i
  have E : td_k S i = td_k K i + td_m K S i := by
    unfold td_m
    omega
  refine pk_le 3 i (fun z => absurd z (by omega)) (fun _ => ⟨pk_in i 3 hi, ?_⟩)
  rw [nI_clamp (by omega), td_ari hs hi, E]
  refine nm_e (td_l21 hi ho (by omega) (td_ari hk hi) (fun t ht => ?_) h H)
  rw [← E]
  exact hR t ht
theorem td_listCells {post : St1 → Prop} {f : Int32} {a1 a2 a3 a4 a5 a6 a7 : Nat → Int32} {K S : Nat} (hk : td_ar a1 K) (hs : td_ar a2 S) (hS : S ≤ 600) (h0 : td_k K 0 ≤ td_k S 0) (h1 : td_k K 1 ≤ td_k S 1) (h2 : td_k K 2 ≤ td_k S 2) (hn : td_n K S ≤ 6)
    (H : ∀ b4 b5 b6 b7 : Nat → Int32, td_cs (td_R K S) (td_P K S) (td_n K S) b4 b5 b6 → (∀ k, k < 4 → b7 k = 0) → post (nI (td_n K S), a1, a2, a3, b4, b5, b6, b7)) : wpX_listCells post (f, a1, a2, a3, a4, a5, a6, a7) := by
  have N : td_n K S = td_m K S 0 + td_m K S 1 + td_m K S 2 := rfl
  refine ⟨4, ?_⟩
  refine td_l7 (i := 0) (o := 0) hk hs hS (by omega) h0 (by omega) (fun t ht => ?_) td_cs0 (fun b4 b5 b6 c1 => ?_)
  · constructor
    · unfold td_R
      rw [if_pos (by omega)]
    · unfold td_P
      rw [if_pos (by omega), Nat.zero_add]
  refine td_l7 (i := 1) (o := 0 + td_m K S 0) hk hs hS (by omega) h1 (by omega) (fun t ht => ?_) c1 (fun c4 c5 c6 c2 => ?_)
  · constructor
    · unfold td_R
      rw [if_neg (by omega), if_pos (by omega)]
    · unfold td_P
      rw [if_neg (by omega), if_pos (by omega)]
      omega
  refine td_l7 (i := 2) (o := 0 + td_m K S 0 + td_m K S 1) hk hs hS (by omega) h2 (by omega) (fun t ht => ?_) c2 (fun d4 d5 d6 c3 => ?_)
  · constructor
    · unfold td_R
      rw [if_neg (by omega), if_neg (by omega)]
    · unfold td_P
      rw [if_neg (by omega), if_neg (by omega)]
      omega
  rw [show 0 + td_m K S 0 + td_m K S 1 + td_m K S 2 = td_n K S by omega] at c3 ⊢
  exact pk_le 3 3 (fun _ => td_l85 (fun b7 hb => H d4 d5 d6 b7 c3 hb)) (fun z => absurd z (by omega))
end
section
/-! tryNumbers over a list: its head is the number of the cell at hand (0: none yet), its tail the numbers of the cells before it, the last first -/
/-- how often x stands there -/
def td_ct (x : Nat) : List Nat → Nat
  | [] => 0
  | y :: l => bif Nat.beq y x then td_ct x l + 1 else td_ct x l
/-- cell k's number -/
def td_nu : List Nat → Nat → Nat
  | [], _ => 0
  | y :: l, k => bif Nat.beq k l.length then y else td_nu l k
theorem td_ct_le (x : Nat) (l : List Nat) : td_ct x l ≤ l.length := by
  induction l with
  | nil => exact Nat.le_refl 0
  | cons y l ih =>
    show (bif Nat.beq y x then td_ct x l + 1 else td_ct x l) ≤ l.length + 1
    cases Nat.beq y x with
    | true => exact Nat.succ_le_succ ih
    | false => exact Nat.le_succ_of_le ih
theorem td_ct_eq (x : Nat) (l : List Nat) : td_ct x (x :: l) = td_ct x l + 1 := by
  show (bif Nat.beq x x then td_ct x l + 1 else td_ct x l) = td_ct x l + 1
  rw [show Nat.beq x x = true from Nat.beq_refl x]
  rfl
theorem td_beq_ne {a b : Nat} (h : a ≠ b) : Nat.beq a b = false := Bool.eq_false_iff.mpr (fun e => h (Nat.eq_of_beq_eq_true e))
theorem td_ct_ne {x y : Nat} (h : y ≠ x) (l : List Nat) : td_ct x (y :: l) = td_ct x l := by
  show (bif Nat.beq y x then td_ct x l + 1 else td_ct x l) = td_ct x l
  rw [td_beq_ne h]
  rfl
theorem td_nu_eq (y : Nat) (l : List Nat) : td_nu (y :: l) l.length = y := by
  show (bif Nat.beq l.length l.length then y else td_nu l l.length) = y
  rw [show Nat.beq l.length l.length = true from Nat.beq_refl _]
  rfl
theorem td_nu_ne {k : Nat} {l : List Nat} (h : k ≠ l.length) (y : Nat) : td_nu (y :: l) k = td_nu l k := by
  show (bif Nat.beq k l.length then y else td_nu l k) = td_nu l k
  rw [td_beq_ne h]
  rfl
theorem td_nu_out (l : List Nat) : ∀ k, l.length ≤ k → td_nu l k = 0 := by
  induction l with
  | nil => exact fun k _ => rfl
  | cons y l ih =>
    intro k hk
    have hk' : l.length + 1 ≤ k := hk
    rw [td_nu_ne (by omega)]
    exact ih k (by omega)
theorem td_nu_0 (l : List Nat) (k : Nat) : td_nu (0 :: l) k = td_nu l k := by
  by_cases e : k = l.length
  · rw [e, td_nu_eq, td_nu_out l _ (Nat.le_refl _)]
  · exact td_nu_ne e 0
theorem td_nu_3 (l : List Nat) (h : ∀ y, y ∈ l → y ≤ 3) : ∀ k, td_nu l k ≤ 3 := by
  induction l with
  | nil => exact fun k => Nat.zero_le 3
  | cons y l ih =>
    intro k
    by_cases e : k = l.length
    · rw [e, td_nu_eq]
      exact h y (List.mem_cons_self ..)
    · rw [td_nu_ne e]
      exact ih (fun z hz => h z (List.mem_cons_of_mem _ hz)) k
/-! fitsBeside -/
def td_bad (R P : Nat → Nat) (c x k y : Nat) : Bool := (Nat.beq (R k) (R c) && (Nat.beq (P k) (P c + 1) && Nat.blt y x)) || (Nat.beq (R k + 1) (R c) && (Nat.beq (P k) (P c) && Nat.ble x y))
theorem td_bad_iff {R P : Nat → Nat} {c x k y : Nat} : td_bad R P c x k y = true ↔ (R k = R c ∧ P k = P c + 1 ∧ y < x) ∨ (R k + 1 = R c ∧ P k = P c ∧ x ≤ y) := by
  unfold td_bad Nat.blt
  simp only [Bool.or_eq_true, Bool.and_eq_true, Nat.beq_eq, Nat.ble_eq]
  rfl
/-- the first n cells don't stand against x in cell c -/
def td_fb (R P nu : Nat → Nat) (c x : Nat) : Nat → Bool
  | 0 => true
  | k + 1 => !(td_bad R P c x k (nu k)) && td_fb R P nu c x k
theorem td_fb_all {R P nu : Nat → Nat} {c x : Nat} : ∀ n, td_fb R P nu c x n = true → ∀ k, k < n → td_bad R P c x k (nu k) = false := by
  intro n
  induction n with
  | zero => exact fun _ k hk => absurd hk (by omega)
  | succ n ih =>
    intro h k hk
    have h' : (!(td_bad R P c x n (nu n)) && td_fb R P nu c x n) = true := h
    rw [Bool.and_eq_true, Bool.not_eq_true'] at h'
    by_cases e : k = n
    · rw [e]
      exact h'.1
    · exact ih h'.2 k (by omega)
section
variable {post : Int32 → Prop} {J : Int32 → Prop} {f : Int32} {a1 a2 a3 a4 a5 a6 a7 : Nat → Int32} {R P : Nat → Nat} {c x k y : Nat}
theorem td_f100 {x1 : Int32} (z : Int32) (hz : z = 0 ∨ z = 1) (hk : k < 6) (hx : x < 9) (hy : y < 9) (h6 : a6 k = nI y) (hJ : (z = 0 ∨ y < x) → J (nI (k + 1))) (h0 : z = 1 → x ≤ y → post 0) : wX_fitsBeside_100 post J x1 (nI x) (nI k) z f a1 a2 a3 a4 a5 a6 a7 := by
  unfold wX_fitsBeside_100
  rw [nI_clamp (by omega), h6]
  rcases hz with hz | hz
  · exact br_t hz (nm_r (nI_1 k) (hJ (Or.inl hz)))
  · exact br_f (by rw [hz]; decide) ⟨pk_in k 6 hk, pk_lt y x (fun e => nm_r (nI_1 k) (hJ (Or.inr e))) (fun e => h0 hz e)⟩
theorem td_f83 {x1 : Int32} (w z : Int32) (hw : w = 0 ∨ w = 1) (hz : z = 0 ∨ z = 1) (hk : k < 6) (hx : x < 9) (hy : y < 9) (h6 : a6 k = nI y) (hJ : (w = 0 ∨ x ≤ y) → (z = 0 ∨ y < x) → J (nI (k + 1))) (h0 : (w = 1 ∧ y < x) ∨ (z = 1 ∧ x ≤ y) → post 0) : wX_fitsBeside_83 post J x1 (nI x) (nI k) w z f a1 a2 a3 a4 a5 a6 a7 := by
  unfold wX_fitsBeside_83
  rw [nI_clamp (by omega), h6]
  rcases hw with hw | hw
  · exact br_t hw (td_f100 z hz hk hx hy h6 (hJ (Or.inl hw)) (fun a b => h0 (Or.inr ⟨a, b⟩)))
  · exact br_f (by rw [hw]; decide) ⟨pk_in k 6 hk, pk_lt y x (fun e => h0 (Or.inl ⟨hw, e⟩)) (fun e => td_f100 z hz hk hx hy h6 (hJ (Or.inr e)) (fun a b => h0 (Or.inr ⟨a, b⟩)))⟩
theorem td_f44 (w : Int32) (hw : w = 0 ∨ w = 1) (hk : k < 6) (hc : c < 6) (hx : x < 9) (hy : y < 9) (h6 : a6 k = nI y) (rk : a4 k = nI (R k)) (rc : a4 c = nI (R c)) (pk : a5 k = nI (P k)) (pc : a5 c = nI (P c)) (bR : ∀ j, R j < 20) (bP : ∀ j, P j < 20)
    (hJ : (w = 0 ∨ x ≤ y) → (¬ (R k + 1 = R c ∧ P k = P c) ∨ y < x) → J (nI (k + 1))) (h0 : (w = 1 ∧ y < x) ∨ ((R k + 1 = R c ∧ P k = P c) ∧ x ≤ y) → post 0) : wX_fitsBeside_44 post J (nI c) (nI x) (nI k) w f a1 a2 a3 a4 a5 a6 a7 := by
  have b1 := bR k
  have b2 := bR c
  have b3 := bP k
  have b4 := bP c
  unfold wX_fitsBeside_44
  rw [nI_clamp (show k < 2 ^ 31 by omega), nI_clamp (show c < 2 ^ 31 by omega), rk, rc, pk, pc]
  have F : ¬ (R k + 1 = R c ∧ P k = P c) → wX_fitsBeside_82 post J (nI c) (nI x) (nI k) w f a1 a2 a3 a4 a5 a6 a7 := fun e => by
    unfold wX_fitsBeside_82
    exact td_f83 w 0 hw (Or.inl rfl) hk hx hy h6 (fun a _ => hJ a (Or.inl e)) (fun a => h0 (a.elim (fun b => Or.inl b) (fun b => absurd b.1 (by decide))))
  refine ⟨pk_in k 6 hk, pk_in c 6 hc, ek_if (td_eqm1 (by omega) (by omega)) (fun e => ⟨pk_in k 6 hk, pk_in c 6 hc, ?_⟩) (fun e => F (fun a => e a.1))⟩
  refine pk_eq (P k) (P c) (fun e2 => ?_) (fun e2 => F (fun a => e2 a.2))
  exact td_f83 w 1 hw (Or.inr rfl) hk hx hy h6 (fun a b => hJ a (Or.inr (b.elim (fun g => absurd g (by decide)) id))) (fun a => h0 (a.elim Or.inl (fun b => Or.inr ⟨⟨e, e2⟩, b.2⟩)))
end
theorem td_fits {post : Int32 → Prop} {f : Int32} {a1 a2 a3 a4 a5 a6 a7 : Nat → Int32} {R P nu : Nat → Nat} {c x : Nat} (hc : c < 6) (hx : x < 9) (hr : ∀ k, k ≤ c → a4 k = nI (R k) ∧ a5 k = nI (P k)) (h6 : ∀ k, k < c → a6 k = nI (nu k)) (b6 : ∀ k, nu k < 9) (bR : ∀ j, R j < 20) (bP : ∀ j, P j < 20)
    (h1 : td_fb R P nu c x c = true → post 1) (h0 : td_fb R P nu c x c = false → post 0) : wpX_fitsBeside post (f, a1, a2, a3, a4, a5, a6, a7) (nI c) (nI x) := by
  have bad : ∀ k, k < c → td_bad R P c x k (nu k) = true → post 0 := fun k hk e => h0 (Bool.eq_false_iff.mpr (fun g => absurd (e.symm.trans (td_fb_all c g k hk)) (by decide)))
  refine loop_0 (σ := Unit) (fun n i _ => wX_fitsBeside_2 post (nI c) (nI x) f a1 a2 a3 a4 a5 a6 a7 n (nI i)) (fun i _ => td_fb R P nu c x i = true) c () rfl ?_ ?_
  · intro n _ h
    exact pk_le c c (fun _ => h1 h) (fun z => absurd z (by omega))
  · intro n i _ hi h hw
    have h' : td_fb R P nu c x i = true := h
    have b1 := bR i
    have b2 := bR c
    have b3 := bP i
    have b4 := bP c
    have go : td_bad R P c x i (nu i) = false → wX_fitsBeside_2 post (nI c) (nI x) f a1 a2 a3 a4 a5 a6 a7 n (nI (i + 1)) := fun e => hw () (by
      show (!(td_bad R P c x i (nu i)) && td_fb R P nu c x i) = true
      rw [e, h']
      rfl)
    have no : ¬ ((R i = R c ∧ P i = P c + 1 ∧ nu i < x) ∨ (R i + 1 = R c ∧ P i = P c ∧ x ≤ nu i)) → td_bad R P c x i (nu i) = false := fun e => Bool.eq_false_iff.mpr (fun g => e (td_bad_iff.mp g))
    have F : ∀ w : Int32, (w = 0 ∨ w = 1) → (w = 1 → R i = R c ∧ P i = P c + 1) → (w = 0 → ¬ (R i = R c ∧ P i = P c + 1)) → wX_fitsBeside_44 post (wX_fitsBeside_2 post (nI c) (nI x) f a1 a2 a3 a4 a5 a6 a7 n) (nI c) (nI x) (nI i) w f a1 a2 a3 a4 a5 a6 a7 := by
      intro w hw1 g1 g0
      refine td_f44 (R := R) (P := P) (y := nu i) w hw1 (by omega) hc hx (b6 i) (h6 i hi) (hr i (by omega)).1 (hr c (Nat.le_refl c)).1 (hr i (by omega)).2 (hr c (Nat.le_refl c)).2 bR bP (fun p q => go (no ?_)) (fun p => bad i hi (td_bad_iff.mpr ?_))
      · rintro (⟨e1, e2, e3⟩ | ⟨e1, e2, e3⟩)
        · rcases p with p | p
          · exact g0 p ⟨e1, e2⟩
          · omega
        · rcases q with q | q
          · exact q ⟨e1, e2⟩
          · omega
      · rcases p with ⟨p, q⟩ | ⟨⟨p, p'⟩, q⟩
        · exact Or.inl ⟨(g1 p).1, (g1 p).2, q⟩
        · exact Or.inr ⟨p, p', q⟩
    refine pk_le c i (fun z => absurd z (by omega)) (fun _ => ?_)
    rw [nI_clamp (show i < 2 ^ 31 by omega), nI_clamp (show c < 2 ^ 31 by omega), (hr i (by omega)).1, (hr c (Nat.le_refl c)).1, (hr i (by omega)).2, (hr c (Nat.le_refl c)).2, nI_1]
    refine ⟨pk_in i 6 (by omega), pk_in c 6 hc, pk_eq (R i) (R c) (fun e => ⟨pk_in i 6 (by omega), pk_in c 6 hc, pk_eq (P i) (P c + 1) (fun e2 => F 1 (Or.inr rfl) (fun _ => ⟨e, e2⟩) (fun g => absurd g (by decide))) (fun e2 => ?_)⟩) (fun e => ?_)⟩
    · unfold wX_fitsBeside_43
      exact F 0 (Or.inl rfl) (fun g => absurd g (by decide)) (fun _ g => e2 g.2)
    · unfold wX_fitsBeside_43
      exact F 0 (Or.inl rfl) (fun g => absurd g (by decide)) (fun _ g => e g.1)
/-! nextNumber -/
def td_en (B : Nat) (l : List Nat) (x : Nat) : Bool := Nat.blt (td_ct x l) (td_k B (x - 1)) && (Nat.beq x 1 || Nat.blt (td_ct x l) (td_ct (x - 1) l))
theorem td_en_iff {B : Nat} {l : List Nat} {x : Nat} : td_en B l x = true ↔ td_ct x l < td_k B (x - 1) ∧ (x = 1 ∨ td_ct x l < td_ct (x - 1) l) := by
  unfold td_en Nat.blt
  simp only [Bool.or_eq_true, Bool.and_eq_true, Nat.beq_eq, Nat.ble_eq]
  rfl
def td_nx (B : Nat) (R P : Nat → Nat) (l : List Nat) : Nat → Nat → Nat
  | 0, _ => 0
  | m + 1, x => bif td_en B l x && td_fb R P (td_nu l) l.length x l.length then x else td_nx B R P l m (x + 1)
theorem td_nx3 {B : Nat} {R P : Nat → Nat} {l : List Nat} : ∀ m x, x + m ≤ 4 → td_nx B R P l m x ≤ 3 := by
  intro m
  induction m with
  | zero => exact fun x _ => Nat.zero_le 3
  | succ m ih =>
    intro x hx
    show (bif td_en B l x && td_fb R P (td_nu l) l.length x l.length then x else td_nx B R P l m (x + 1)) ≤ 3
    cases td_en B l x && td_fb R P (td_nu l) l.length x l.length with
    | true =>
      show x ≤ 3
      omega
    | false => exact ih (x + 1) (by omega)
theorem td_next9 {post : Int32 → Prop} {f : Int32} {a1 a2 a3 a4 a5 a6 a7 : Nat → Int32} {R P : Nat → Nat} {B : Nat} {l : List Nat} (hB : td_ar a3 B) (hB6 : B ≤ 600) (hc : l.length < 6) (hl : ∀ y, y ∈ l → y ≤ 3) (hr : ∀ k, k ≤ l.length → a4 k = nI (R k) ∧ a5 k = nI (P k)) (h6 : ∀ k, k < l.length → a6 k = nI (td_nu l k)) (h7 : ∀ k, 1 ≤ k → k < 4 → a7 k = nI (td_ct k l)) (bR : ∀ j, R j < 20) (bP : ∀ j, P j < 20) :
    ∀ m x, x + m = 4 → 1 ≤ x → post (nI (td_nx B R P l m x)) → wX_nextNumber_9 post (nI l.length) f a1 a2 a3 a4 a5 a6 a7 (m + 1) (nI x) := by
  intro m
  induction m with
  | zero =>
    intro x hx _ H
    exact pk_lt 3 x (fun _ => H) (fun z => absurd z (by omega))
  | succ m ih =>
    intro x hx x1 H
    have t1 := td_ct_le x l
    have t2 := td_ct_le (x - 1) l
    have t3 := td_k9 hB6 (x - 1)
    have H' : post (nI (bif td_en B l x && td_fb R P (td_nu l) l.length x l.length then x else td_nx B R P l m (x + 1))) := H
    have NO : (td_en B l x && td_fb R P (td_nu l) l.length x l.length) = false → wX_nextNumber_9 post (nI l.length) f a1 a2 a3 a4 a5 a6 a7 (m + 1) (nI (x + 1)) := fun e => by
      rw [e] at H'
      exact ih (x + 1) (by omega) (by omega) H'
    have F57 : td_en B l x = false → wX_nextNumber_57 post (wX_nextNumber_9 post (nI l.length) f a1 a2 a3 a4 a5 a6 a7 (m + 1)) (nI l.length) (nI x) f a1 a2 a3 a4 a5 a6 a7 := fun e => by
      unfold wX_nextNumber_57
      unfold wX_nextNumber_58
      exact br_t rfl (nm_r (nI_1 x) (NO (by rw [e]; rfl)))
    have F53 : td_en B l x = true → wX_nextNumber_53 post (wX_nextNumber_9 post (nI l.length) f a1 a2 a3 a4 a5 a6 a7 (m + 1)) (nI l.length) (nI x) f a1 a2 a3 a4 a5 a6 a7 := fun e => by
      unfold wX_nextNumber_53
      unfold wX_nextNumber_58
      refine br_f (by decide) (td_fits hc (by omega) hr h6 (fun k => Nat.lt_of_le_of_lt (td_nu_3 l hl k) (by omega)) bR bP (fun g => br_f (by decide) ?_) (fun g => br_t rfl (nm_r (nI_1 x) (NO (by rw [e, g]; rfl)))))
      rw [e, g] at H'
      exact H'
    have E : nI x - 1 = nI (x - 1) := pk_sub (b := 1) x1
    refine pk_lt 3 x (fun z => absurd z (by omega)) (fun _ => ?_)
    rw [E, nI_clamp (show x < 2 ^ 31 by omega), nI_clamp (show x - 1 < 2 ^ 31 by omega), td_ari hB (show x - 1 < 3 by omega), h7 x x1 (by omega)]
    refine ⟨pk_in x 4 (by omega), pk_in (x - 1) 3 (by omega), pk_le (td_k B (x - 1)) (td_ct x l) (fun z => F57 ?_) (fun z => pk_eq x 1 (fun z1 => F53 (td_en_iff.mpr ⟨z, Or.inl z1⟩)) (fun z1 => ⟨pk_in x 4 (by omega), pk_in (x - 1) 4 (by omega), ?_⟩))⟩
    · exact Bool.eq_false_iff.mpr (fun g => absurd (td_en_iff.mp g).1 (by omega))
    · rw [h7 (x - 1) (by omega) (by omega)]
      exact pk_le (td_ct (x - 1) l) (td_ct x l) (fun z2 => F57 (Bool.eq_false_iff.mpr (fun g => (td_en_iff.mp g).2.elim (fun b => z1 b) (fun b => absurd b (by omega))))) (fun z2 => F53 (td_en_iff.mpr ⟨z, Or.inr z2⟩))
end
section
/-! tryNumbers: the loop against the run over a list -/
theorem td_next {post : Int32 → Prop} {f : Int32} {a1 a2 a3 a4 a5 a6 a7 : Nat → Int32} {R P : Nat → Nat} {B c : Nat} {l : List Nat} (hB : td_ar a3 B) (hB6 : B ≤ 600) (hl6 : l.length < 6) (hc : c ≤ 3) (hl : ∀ y, y ∈ l → y ≤ 3) (hr : ∀ k, k ≤ l.length → a4 k = nI (R k) ∧ a5 k = nI (P k)) (h6 : ∀ k, k ≤ l.length → a6 k = nI (td_nu (c :: l) k)) (h7 : ∀ k, 1 ≤ k → k < 4 → a7 k = nI (td_ct k l)) (bR : ∀ j, R j < 20) (bP : ∀ j, P j < 20)
    (H : post (nI (td_nx B R P l (3 - c) (c + 1)))) : wpX_nextNumber post (f, a1, a2, a3, a4, a5, a6, a7) (nI l.length) := by
  have A : a6 l.length = nI c := by rw [h6 l.length (Nat.le_refl _), td_nu_eq]
  refine ⟨pk_in l.length 6 hl6, ?_⟩
  rw [nI_clamp (show l.length < 2 ^ 31 by omega), A]
  refine nm_r (nI_1 c) ⟨3 - c + 1, td_next9 hB hB6 hl6 hl hr (fun k hk => ?_) h7 bR bP (3 - c) (c + 1) (by omega) (by omega) H⟩
  rw [h6 k (by omega), td_nu_ne (by omega)]
theorem td_t58 {post : Int32 → St1 → Prop} {J : Int32 → Int32 → Int32 → (Nat → Int32) → (Nat → Int32) → (Nat → Int32) → (Nat → Int32) → (Nat → Int32) → (Nat → Int32) → (Nat → Int32) → Prop} {f x1 : Int32} {a1 a2 a3 a4 a5 a6 a7 : Nat → Int32} {R P : Nat → Nat} {B c n t y : Nat} {l : List Nat} (hB : td_ar a3 B) (hB6 : B ≤ 600) (hn : n ≤ 6) (hln : l.length < n) (hc : c ≤ 3) (hl : ∀ y, y ∈ l → y ≤ 3) (hr : ∀ k, k < n → a4 k = nI (R k) ∧ a5 k = nI (P k)) (h6 : ∀ k, k < n → a6 k = nI (td_nu (c :: l) k)) (h7 : ∀ k, 1 ≤ k → k < 4 → a7 k = nI (td_ct k l)) (bR : ∀ j, R j < 20) (bP : ∀ j, P j < 20)
    (hy : td_nx B R P l (3 - c) (c + 1) = y)
    (J0 : y = 0 → ∀ b6 : Nat → Int32, (∀ k, k < n → b6 k = nI (td_nu l k)) → J x1 (nI l.length - 1) (nI (t + 1)) a1 a2 a3 a4 a5 b6 a7)
    (J1 : y ≠ 0 → ∀ b6 b7 : Nat → Int32, (∀ k, k < n → b6 k = nI (td_nu (0 :: y :: l) k)) → (∀ k, 1 ≤ k → k < 4 → b7 k = nI (td_ct k (0 :: y :: l))) → J x1 (nI (0 :: y :: l).length - 1) (nI (t + 1)) a1 a2 a3 a4 a5 b6 b7) :
    wX_tryNumbers_58 post J x1 (nI l.length) (nI t) f a1 a2 a3 a4 a5 a6 a7 := by
  have y3 : y ≤ 3 := by
    rw [← hy]
    exact td_nx3 (3 - c) (c + 1) (by omega)
  have E1 : nI l.length + 1 = nI (0 :: y :: l).length - 1 := by
    rw [nI_1]
    exact (nI_pred (l.length + 1)).symm
  unfold wX_tryNumbers_58
  refine td_next hB hB6 (by omega) hc hl (fun k hk => hr k (by omega)) (fun k hk => h6 k (by omega)) h7 bR bP ?_
  rw [hy]
  refine ⟨pk_in l.length 6 (by omega), ?_⟩
  rw [nI_clamp (show l.length < 2 ^ 31 by omega)]
  refine nm_e ⟨pk_in l.length 6 (by omega), ?_⟩
  rw [pk_us, nI_clamp (show y < 2 ^ 31 by omega)]
  refine pk_eq y 0 (fun z => nm_r (td_pm1 _) (nm_r (nI_1 t) (J0 z _ ?_))) (fun z => ⟨pk_in l.length 6 (by omega), pk_in y 4 (by omega), pk_in y 4 (by omega), nm_e (nm_r E1 (nm_r (nI_1 t) (J1 z _ _ ?_ ?_)))⟩)
  · intro k hk
    by_cases e : k = l.length
    · rw [e, pk_us, td_nu_out l _ (Nat.le_refl _), z]
    · rw [pk_un e, h6 k hk, td_nu_ne e]
  · intro k hk
    rw [td_nu_0]
    by_cases e : k = l.length
    · rw [e, pk_us, td_nu_eq]
    · rw [pk_un e, h6 k hk, td_nu_ne e, td_nu_ne e]
  · intro k k1 k4
    rw [td_ct_ne (show 0 ≠ k by omega)]
    by_cases e : k = y
    · rw [e, pk_us, td_ct_eq, h7 y (by omega) (by omega), nI_1]
    · rw [pk_un e, h7 k k1 k4, td_ct_ne (fun g => e g.symm)]
def td_run (B : Nat) (R P : Nat → Nat) (n : Nat) : Nat → Nat → List Nat → Option Nat
  | 0, fd, w => match w with
    | [] => some fd
    | _ :: _ => none
  | m + 1, fd, w => match w with
    | [] => some fd
    | c :: l => if l.length = n then td_run B R P n m (fd + 1) l else match td_nx B R P l (3 - c) (c + 1) with
      | 0 => td_run B R P n m fd l
      | y + 1 => td_run B R P n m fd (0 :: (y + 1) :: l)
theorem td_run_f {B : Nat} {R P : Nat → Nat} {n m fd c : Nat} {l : List Nat} (z : l.length = n) : td_run B R P n (m + 1) fd (c :: l) = td_run B R P n m (fd + 1) l := by
  show (if l.length = n then td_run B R P n m (fd + 1) l else match td_nx B R P l (3 - c) (c + 1) with
      | 0 => td_run B R P n m fd l
      | y + 1 => td_run B R P n m fd (0 :: (y + 1) :: l)) = _
  rw [if_pos z]
theorem td_run_0 {B : Nat} {R P : Nat → Nat} {n m fd c : Nat} {l : List Nat} (z : l.length ≠ n) (hy : td_nx B R P l (3 - c) (c + 1) = 0) : td_run B R P n (m + 1) fd (c :: l) = td_run B R P n m fd l := by
  show (if l.length = n then td_run B R P n m (fd + 1) l else match td_nx B R P l (3 - c) (c + 1) with
      | 0 => td_run B R P n m fd l
      | y + 1 => td_run B R P n m fd (0 :: (y + 1) :: l)) = _
  rw [if_neg z, hy]
theorem td_run_1 {B : Nat} {R P : Nat → Nat} {n m fd c : Nat} {l : List Nat} (z : l.length ≠ n) (y : Nat) (hy : td_nx B R P l (3 - c) (c + 1) = y + 1) : td_run B R P n (m + 1) fd (c :: l) = td_run B R P n m fd (0 :: (y + 1) :: l) := by
  show (if l.length = n then td_run B R P n m (fd + 1) l else match td_nx B R P l (3 - c) (c + 1) with
      | 0 => td_run B R P n m fd l
      | y + 1 => td_run B R P n m fd (0 :: (y + 1) :: l)) = _
  rw [if_neg z, hy]
theorem td_try {post : Int32 → St1 → Prop} {a1 a2 a3 a4 a5 : Nat → Int32} {R P : Nat → Nat} {B n r : Nat} (hB : td_ar a3 B) (hB6 : B ≤ 600) (hn : n ≤ 6) (hr : ∀ k, k < n → a4 k = nI (R k) ∧ a5 k = nI (P k)) (bR : ∀ j, R j < 20) (bP : ∀ j, P j < 20)
    (H : ∀ b6 b7 : Nat → Int32, post (nI r) (nI n, a1, a2, a3, a4, a5, b6, b7)) :
    ∀ (m fd : Nat) (w : List Nat) (t : Nat) (a6 a7 : Nat → Int32), td_run B R P n m fd w = some r → t + m ≤ 5000 → w.length ≤ n + 1 → (w.length = n + 1 → td_nu w n = 0) → (∀ y, y ∈ w → y ≤ 3) → (∀ k, k < n → a6 k = nI (td_nu w k)) → (∀ k, 1 ≤ k → k < 4 → a7 k = nI (td_ct k w)) →
      wX_tryNumbers_6 post (nI n) (m + 1) (nI fd) (nI w.length - 1) (nI t) a1 a2 a3 a4 a5 a6 a7 := by
  have NIL : ∀ (m t : Nat) (a6 a7 : Nat → Int32), wX_tryNumbers_6 post (nI n) (m + 1) (nI r) (nI ([] : List Nat).length - 1) (nI t) a1 a2 a3 a4 a5 a6 a7 := fun m t a6 a7 =>
    br_c (fun _ => H a6 a7) (fun _ => br_t (show nI 0 - 1 < 0 by decide) (H a6 a7))
  intro m
  induction m with
  | zero =>
    intro fd w t a6 a7 hrun _ _ _ _ _ _
    cases w with
    | nil =>
      have e : fd = r := Option.some.inj hrun
      rw [e]
      exact NIL 0 t a6 a7
    | cons c l => exact absurd (show (none : Option Nat) = some r from hrun) (by simp)
  | succ m ih =>
    intro fd w t a6 a7 hrun ht hw hw0 h3 h6 h7
    cases w with
    | nil =>
      have e : fd = r := Option.some.inj hrun
      rw [e]
      exact NIL (m + 1) t a6 a7
    | cons c l =>
      have hl1 : l.length ≤ n := Nat.le_of_succ_le_succ hw
      have c3 : c ≤ 3 := h3 c (List.mem_cons_self ..)
      have l3 : ∀ y, y ∈ l → y ≤ 3 := fun y hy => h3 y (List.mem_cons_of_mem _ hy)
      rw [show nI (c :: l).length - 1 = nI l.length from nI_pred l.length]
      refine pk_le 5000 t (fun z => absurd z (by omega)) (fun _ => pk_lt l.length 0 (fun z => absurd z (by omega)) (fun _ => pk_eq l.length n (fun z => ?_) (fun z => ⟨pk_in l.length 6 (by omega), ?_⟩)))
      · have c0 : c = 0 := by
          have g := hw0 (by show l.length + 1 = n + 1; omega)
          rw [← z, td_nu_eq] at g
          exact g
        rw [td_run_f z] at hrun
        refine nm_r (nI_1 fd) (nm_r (td_pm1 _) (nm_r (nI_1 t) (ih (fd + 1) l (t + 1) a6 a7 hrun (by omega) (by omega) (fun g => absurd g (by omega)) l3 (fun k hk => ?_) (fun k k1 k4 => ?_))))
        · rw [h6 k hk, td_nu_ne (by omega)]
        · rw [h7 k k1 k4, c0, td_ct_ne (by omega)]
      · have hln : l.length < n := by omega
        have A6 : a6 l.length = nI c := by rw [h6 l.length hln, td_nu_eq]
        have STEP : ∀ b7 : Nat → Int32, (∀ k, 1 ≤ k → k < 4 → b7 k = nI (td_ct k l)) → wX_tryNumbers_58 post (wX_tryNumbers_6 post (nI n) (m + 1)) (nI fd) (nI l.length) (nI t) (nI n) a1 a2 a3 a4 a5 a6 b7 := by
          intro b7 hb7
          have y3 := td_nx3 (B := B) (R := R) (P := P) (l := l) (3 - c) (c + 1) (by omega)
          cases hy : td_nx B R P l (3 - c) (c + 1) with
          | zero =>
            rw [td_run_0 z hy] at hrun
            exact td_t58 hB hB6 hn hln c3 l3 hr h6 hb7 bR bP hy (fun _ b6 g6 => ih fd l (t + 1) b6 b7 hrun (by omega) (by omega) (fun g => absurd g (by omega)) l3 g6 hb7) (fun e => absurd rfl e)
          | succ y =>
            rw [td_run_1 z y hy] at hrun
            rw [hy] at y3
            refine td_t58 hB hB6 hn hln c3 l3 hr h6 hb7 bR bP hy (fun e => absurd e (by omega)) (fun _ b6 g7 k6 k7 => ih fd (0 :: (y + 1) :: l) (t + 1) b6 g7 hrun (by omega) ?_ ?_ ?_ k6 k7)
            · show l.length + 1 + 1 ≤ n + 1
              omega
            · intro g
              have g' : l.length + 1 + 1 = n + 1 := g
              rw [show n = ((y + 1) :: l).length from by show n = l.length + 1; omega, td_nu_eq]
            · intro v hv
              rcases List.mem_cons.mp hv with e | hv
              · omega
              · rcases List.mem_cons.mp hv with e | hv
                · omega
                · exact l3 v hv
        rw [nI_clamp (show l.length < 2 ^ 31 by omega), A6, nI_clamp (show c < 2 ^ 31 by omega)]
        refine pk_le c 0 (fun z0 => STEP a7 (fun k k1 k4 => ?_)) (fun z0 => ⟨pk_in l.length 6 (by omega), pk_in c 4 (by omega), pk_in c 4 (by omega), nm_e (STEP _ (fun k k1 k4 => ?_))⟩)
        · rw [h7 k k1 k4, td_ct_ne (by omega)]
        · by_cases e : k = c
          · rw [e, pk_us, h7 c (by omega) (by omega), td_ct_eq, nI_pred]
          · rw [pk_un e, h7 k k1 k4, td_ct_ne (fun g => e g.symm)]
end
section
/-! countFillings, times, parts, greatest -/
def td_cr (K B S : Nat) : Option Nat := if td_sz S = td_sz K + td_sz B then td_run B (td_R K S) (td_P K S) (td_n K S) 40 0 [0] else some 0
def td_cf (K B S : Nat) : Option Nat := if td_k K 0 ≤ td_k S 0 then (if td_k K 1 ≤ td_k S 1 then (if td_k K 2 ≤ td_k S 2 then td_cr K B S else some 0) else some 0) else some 0
theorem td_szk (s : Nat) : td_sz s = td_k s 0 + td_k s 1 + td_k s 2 := rfl
theorem td_cf116 {post : Int32 → St1 → Prop} {f : Int32} {a1 a2 a3 a4 a5 a6 a7 : Nat → Int32} {K B S r : Nat} (hK : td_ar a1 K) (hS : td_ar a2 S) (hB : td_ar a3 B) (sK : td_sb K = true) (sB : td_sb B = true) (sS : td_sb S = true) (h0 : td_k K 0 ≤ td_k S 0) (h1 : td_k K 1 ≤ td_k S 1) (h2 : td_k K 2 ≤ td_k S 2) (hr : td_cr K B S = some r) (H : ∀ u', td_ku u' K → post (nI r) u') : wX_countFillings_116 post (nI B) (nI S) 1 f a1 a2 a3 a4 a5 a6 a7 := by
  have k6 := td_s6 sK
  have bb6 := td_s6 sB
  have s6 := td_s6 sS
  have kz := td_z6 sK
  have bz := td_z6 sB
  have sz := td_z6 sS
  have hk : td_ku (f, a1, a2, a3, a4, a5, a6, a7) K := hK
  unfold wX_countFillings_116
  refine br_f (by decide) (td_Xsize (s := S) (by omega) (td_keptSize hk (td_Xsize (s := B) (by omega) (pk_eq (td_sz S) (td_sz K + td_sz B) (fun z => ?_) (fun z => ?_) rfl (nI_add _ _)))))
  · have hr' : td_run B (td_R K S) (td_P K S) (td_n K S) 40 0 [0] = some r := by
      rw [← hr]
      exact (if_pos z).symm
    have N : td_n K S ≤ 6 := by
      rw [td_szk, td_szk] at z
      rw [td_szk] at sz
      unfold td_n td_m
      omega
    refine td_listCells hK hS s6 h0 h1 h2 N (fun b4 b5 b6 b7 hc h7 => ?_)
    dsimp only
    refine ⟨41, ?_⟩
    have T := td_try (post := fun r_50 u => match u with | (f0_cells_51, am1441_54, am1442_57, am1443_60, am1444_63, am1445_66, am1446_69, am1447_72) => (post r_50 (f0_cells_51, am1441_54, am1442_57, am1443_60, am1444_63, am1445_66, am1446_69, am1447_72))) (a1 := a1) (a2 := a2) (r := r) hB bb6 N (fun k hk => ⟨(hc k hk).1, (hc k hk).2.1⟩) (fun j => Nat.lt_of_le_of_lt (td_R2 K S j) (by omega)) (fun j => Nat.lt_of_le_of_lt (td_P9 s6 K j) (by omega)) (fun _ _ => H _ hK)
      40 0 [0] 0 b6 b7 hr' (by omega) (by show 1 ≤ td_n K S + 1; omega) (fun g => by rw [td_nu_0]; rfl) (fun y hy => by rw [List.mem_singleton.mp hy]; omega) (fun k hk => by rw [td_nu_0, (hc k hk).2.2]; rfl) (fun k k1 k4 => by rw [td_ct_ne (by omega), h7 k k4]; rfl)
    rw [show nI [0].length - 1 = 0 from by decide] at T
    exact T
  · have e : r = 0 := by
      have g : td_cr K B S = some 0 := if_neg z
      rw [g] at hr
      exact (Option.some.inj hr).symm
    rw [e] at H
    exact H _ hk
theorem td_countFillings {post : Int32 → St1 → Prop} {u : St1} {K B S r : Nat} (hk : td_ku u K) (sK : td_sb K = true) (sB : td_sb B = true) (sS : td_sb S = true) (hr : td_cf K B S = some r) (H : ∀ u', td_ku u' K → post (nI r) u') : wpX_countFillings post u (nI B) (nI S) := by
  obtain ⟨f, a1, a2, a3, a4, a5, a6, a7⟩ := u
  have hK : td_ar a1 K := hk
  have b6 := td_s6 sB
  have s6 := td_s6 sS
  have hS := td_ar3 (a := a2) (s := S) (by omega)
  have hB := td_ar3 (a := a3) (s := B) (by omega)
  unfold wpX_countFillings
  dsimp only
  refine ⟨by decide, nm_e ⟨by decide, by decide, nm_e ⟨by decide, nm_e ⟨by decide, nm_e ⟨by decide, by decide, nm_e ⟨by decide, nm_e ?_⟩⟩⟩⟩⟩⟩
  generalize upd (upd (upd a2 0 (nI S / 100)) 1 (nI S / 10 - nI S / 10 / 10 * 10)) 2 (nI S - nI S / 10 * 10) = b2 at hS ⊢
  generalize upd (upd (upd a3 0 (nI B / 100)) 1 (nI B / 10 - nI B / 10 / 10 * 10)) 2 (nI B - nI B / 10 * 10) = b3 at hB ⊢
  have q0 := td_k9 (td_s6 sK) 0
  have q1 := td_k9 (td_s6 sK) 1
  have q2 := td_k9 (td_s6 sK) 2
  have p0 := td_k9 s6 0
  have p1 := td_k9 s6 1
  have p2 := td_k9 s6 2
  have Z : td_cf K B S = some 0 → wX_countFillings_115 post (nI B) (nI S) f a1 b2 b3 a4 a5 a6 a7 := fun g => by
    have e : r = 0 := by
      rw [g] at hr
      exact (Option.some.inj hr).symm
    rw [e] at H
    unfold wX_countFillings_115
    unfold wX_countFillings_116
    exact br_t rfl (H _ hK)
  refine pk_lt (td_k S 0) (td_k K 0) (fun z => Z ?_) (fun z0 => pk_lt (td_k S 1) (td_k K 1) (fun z => Z ?_) (fun z1 => pk_lt (td_k S 2) (td_k K 2) (fun z => Z ?_) (fun z2 => ?_) hS.2.2 hK.2.2) hS.2.1 hK.2.1) hS.1 hK.1
  · unfold td_cf
    rw [if_neg (by omega)]
  · unfold td_cf
    rw [if_pos z0, if_neg (by omega)]
  · unfold td_cf
    rw [if_pos z0, if_pos z1, if_neg (by omega)]
  · unfold td_cf at hr
    rw [if_pos z0, if_pos z1, if_pos z2] at hr
    exact td_cf116 hK hS hB sK sB sS z0 z1 z2 hr H
theorem td_times {post : Int32 → St1 → Prop} {u : St1} {K B S r : Nat} (hk : td_ku u K) (sK : td_sb K = true) (sB : td_sb B = true) (sS : td_sb S = true) (hs : td_sz K + td_sz B ≤ 6) (hr : td_cf K B S = some r) (H : ∀ u', td_ku u' K → post (nI r) u') : wpX_times post u (nI B) (nI S) := by
  obtain ⟨f, a1, a2, a3, a4, a5, a6, a7⟩ := u
  have b6 := td_s6 sB
  unfold wpX_times
  dsimp only
  refine td_Xyes sB (br_f (by decide) (td_Xyes sS (br_f (by decide) (td_keptSize hk (td_Xsize (s := B) (by omega) (pk_le (td_sz K + td_sz B) 6 (fun _ => td_countFillings hk sK sB sS hr (fun u' h => ?_)) (fun z => absurd z (by omega)) (nI_add _ _)))))))
  obtain ⟨g, b1, b2, b3, b4, b5, b6, b7⟩ := u'
  exact H _ h
theorem td_timesN {post : Int32 → St1 → Prop} {u : St1} {K B S : Nat} (hk : td_ku u K) (sK : td_sb K = true) (sB : td_sb B = true) (sS : td_sb S = true) (hs : 6 < td_sz K + td_sz B) (H : post (-1) u) : wpX_times post u (nI B) (nI S) := by
  obtain ⟨f, a1, a2, a3, a4, a5, a6, a7⟩ := u
  have b6 := td_s6 sB
  have kz := td_z6 sK
  have bz := td_z6 sB
  unfold wpX_times
  dsimp only
  exact td_Xyes sB (br_f (by decide) (td_Xyes sS (br_f (by decide) (td_keptSize hk (td_Xsize (s := B) (by omega) (pk_le (td_sz K + td_sz B) 6 (fun z => absurd z (by omega)) (fun _ => H) (nI_add _ _)))))))
theorem td_partsN {post : Int32 → St1 → Prop} {u : St1} {K B : Nat} (hk : td_ku u K) (sK : td_sb K = true) (sB : td_sb B = true) (hs : 6 < td_sz K + td_sz B) (H : post (-1) u) : wpX_parts post u (nI B) := by
  obtain ⟨f, a1, a2, a3, a4, a5, a6, a7⟩ := u
  have b6 := td_s6 sB
  have kz := td_z6 sK
  have bz := td_z6 sB
  unfold wpX_parts
  dsimp only
  exact td_Xyes sB (br_f (by decide) (td_keptSize hk (td_Xsize (s := B) (by omega) (pk_le (td_sz K + td_sz B) 6 (fun z => absurd z (by omega)) (fun _ => H) (nI_add _ _)))))
theorem td_greatestN {post : Int32 → Prop} {u : St1} {K B : Nat} (hk : td_ku u K) (sK : td_sb K = true) (sB : td_sb B = true) (hs : 6 < td_sz K + td_sz B) (H : post (-1)) : wpX_greatest post u (nI B) := by
  obtain ⟨f, a1, a2, a3, a4, a5, a6, a7⟩ := u
  have b6 := td_s6 sB
  have kz := td_z6 sK
  have bz := td_z6 sB
  unfold wpX_greatest
  dsimp only
  exact td_Xyes sB (br_f (by decide) (td_keptSize hk (td_Xsize (s := B) (by omega) (pk_le (td_sz K + td_sz B) 6 (fun z => absurd z (by omega)) (fun _ => H) (nI_add _ _)))))
/-! sums over the shapes -/
def td_lr (K B S : Nat) : Nat := (td_cf K B S).getD 0
def td_par (K B : Nat) : Nat → Nat
  | 0 => 0
  | s + 1 => td_par K B s + (bif td_sb s then td_lr K B s else 0)
def td_tot (K B : Nat) : Nat → Nat
  | 0 => 0
  | s + 1 => td_tot K B s + (bif td_sb s then td_lr K B s * td_dim s else 0)
theorem td_lr0 {K B S : Nat} (h : td_sz S ≠ td_sz K + td_sz B) : td_lr K B S = 0 := by
  unfold td_lr td_cf
  split
  · split
    · split
      · unfold td_cr
        rw [if_neg h]
        rfl
      · rfl
    · rfl
  · rfl
theorem td_par_1 {K B s : Nat} (h : td_sb s = true) : td_par K B (s + 1) = td_par K B s + td_lr K B s := by
  show td_par K B s + (bif td_sb s then td_lr K B s else 0) = _
  rw [h]
  rfl
theorem td_par_0 {K B s : Nat} (h : td_sb s = false) : td_par K B (s + 1) = td_par K B s := by
  show td_par K B s + (bif td_sb s then td_lr K B s else 0) = _
  rw [h]
  rfl
theorem td_tot_1 {K B s : Nat} (h : td_sb s = true) : td_tot K B (s + 1) = td_tot K B s + td_lr K B s * td_dim s := by
  show td_tot K B s + (bif td_sb s then td_lr K B s * td_dim s else 0) = _
  rw [h]
  rfl
theorem td_tot_0 {K B s : Nat} (h : td_sb s = false) : td_tot K B (s + 1) = td_tot K B s := by
  show td_tot K B s + (bif td_sb s then td_lr K B s * td_dim s else 0) = _
  rw [h]
  rfl
theorem td_parts {post : Int32 → St1 → Prop} {u : St1} {K B : Nat} (hk : td_ku u K) (sK : td_sb K = true) (sB : td_sb B = true) (hs : td_sz K + td_sz B ≤ 6) (ok : ∀ s, td_sb s = true → td_cf K B s = some (td_lr K B s)) (H : ∀ u', td_ku u' K → post (nI (td_par K B 601)) u') : wpX_parts post u (nI B) := by
  obtain ⟨f, a1, a2, a3, a4, a5, a6, a7⟩ := u
  have b6 := td_s6 sB
  unfold wpX_parts
  dsimp only
  refine td_Xyes sB (br_f (by decide) (td_keptSize hk (td_Xsize (s := B) (by omega) (pk_le (td_sz K + td_sz B) 6 (fun _ => ?_) (fun z => absurd z (by omega)) (nI_add _ _)))))
  refine loop_0 (σ := Int32 × St1) (fun n i s => wX_parts_27 post (nI B) n s.1 (nI i) s.2.1 s.2.2.1 s.2.2.2.1 s.2.2.2.2.1 s.2.2.2.2.2.1 s.2.2.2.2.2.2.1 s.2.2.2.2.2.2.2.1 s.2.2.2.2.2.2.2.2) (fun i s => s.1 = nI (td_par K B i) ∧ td_ku s.2 K) 601 (0, f, a1, a2, a3, a4, a5, a6, a7) ⟨rfl, hk⟩ ?_ ?_
  · rintro n ⟨t, g, b1, b2, b3, b4, b5, b6, b7⟩ ⟨e, hk1⟩
    have e' : t = nI (td_par K B 601) := e
    subst e'
    exact pk_lt 600 601 (fun _ => H _ hk1) (fun z => absurd z (by omega))
  · rintro n i ⟨t, g, b1, b2, b3, b4, b5, b6, b7⟩ hi ⟨e, hk1⟩ hw
    have e' : t = nI (td_par K B i) := e
    subst e'
    refine pk_lt 600 i (fun z => absurd z (by omega)) (fun _ => td_XisShape (by omega) (fun si => br_f (by decide) (td_countFillings hk1 sK sB si (ok i si) (fun u' hk2 => ?_))) (fun si => br_t rfl (nm_r (nI_1 i) ?_)))
    · obtain ⟨g', c1, c2, c3, c4, c5, c6, c7⟩ := u'
      refine nm_r (nI_add _ _) (nm_r (nI_1 i) (hw (nI (td_par K B i + td_lr K B i), g', c1, c2, c3, c4, c5, c6, c7) ⟨?_, hk2⟩))
      show nI (td_par K B i + td_lr K B i) = nI (td_par K B (i + 1))
      rw [td_par_1 si]
    · refine hw (nI (td_par K B i), g, b1, b2, b3, b4, b5, b6, b7) ⟨?_, hk1⟩
      show nI (td_par K B i) = nI (td_par K B (i + 1))
      rw [td_par_0 si]
end
section
/-! what the kernel computes: for each two shapes of at most six cells together, the numbers of the product agree both ways, and their sum is right -/
def td_chk1 (a b s : Nat) : Bool := match td_cf a b s with
  | some m => (match td_cf b a s with
    | some n => Nat.beq m n && Nat.ble m 100
    | none => false)
  | none => false
def td_chk2 (a b : Nat) : Bool := td_all.all (fun s => td_chk1 a b s)
def td_chk3 (a b : Nat) : Bool := Nat.beq (td_tot a b 601) (td_dim a * td_dim b)
theorem td_c2 : ∀ a, a ∈ td_all → ∀ b, b ∈ td_all → td_sz a + td_sz b ≤ 6 → td_chk2 a b = true := by decide +kernel
theorem td_c3 : ∀ a, a ∈ td_all → ∀ b, b ∈ td_all → td_sz a + td_sz b ≤ 6 → td_chk3 a b = true := by decide +kernel
theorem td_c1 {a b s : Nat} (h : td_chk1 a b s = true) : td_cf a b s = some (td_lr a b s) ∧ td_cf b a s = some (td_lr a b s) ∧ td_lr a b s ≤ 100 := by
  unfold td_chk1 at h
  unfold td_lr
  cases e1 : td_cf a b s with
  | none =>
    rw [e1] at h
    exact absurd (show false = true from h) (by decide)
  | some m =>
    rw [e1] at h
    cases e2 : td_cf b a s with
    | none =>
      rw [e2] at h
      exact absurd (show false = true from h) (by decide)
    | some n =>
      rw [e2] at h
      have h' : (Nat.beq m n && Nat.ble m 100) = true := h
      rw [Bool.and_eq_true, Nat.beq_eq, Nat.ble_eq] at h'
      refine ⟨rfl, ?_, h'.2⟩
      rw [← h'.1]
      rfl
theorem td_fact {a b : Nat} (sa : td_sb a = true) (sb : td_sb b = true) (h : td_sz a + td_sz b ≤ 6) : (∀ s, td_sb s = true → td_cf a b s = some (td_lr a b s) ∧ td_cf b a s = some (td_lr a b s) ∧ td_lr a b s ≤ 100) ∧ td_tot a b 601 = td_dim a * td_dim b := by
  refine ⟨fun s hs => td_c1 ?_, Nat.eq_of_beq_eq_true (td_c3 a (td_mem sa) b (td_mem sb) h)⟩
  exact List.all_eq_true.mp (td_c2 a (td_mem sa) b (td_mem sb) h) s (td_mem hs)
end
section
/-! product -/
theorem td_p32 {post : Int32 → St1 → Prop} {f : Int32} {a1 a2 a3 a4 a5 a6 a7 : Nat → Int32} {a b : Nat} (sa : td_sb a = true) (sb : td_sb b = true) (hs : td_sz a + td_sz b ≤ 6) (hk : td_ar a1 a) (H : ∀ u', post 1 u') : ∃ n, wL_product_32 post (nI a) (nI b) (nI (td_dim b)) (nI (td_dim a)) n 0 0 0 f a1 a2 a3 a4 a5 a6 a7 := by
  obtain ⟨F, T⟩ := td_fact sa sb hs
  have ha := td_s6 sa
  have hb := td_s6 sb
  refine loop_0 (σ := Int32 × Int32 × St1) (fun n i s => wL_product_32 post (nI a) (nI b) (nI (td_dim b)) (nI (td_dim a)) n s.1 s.2.1 (nI i) s.2.2.1 s.2.2.2.1 s.2.2.2.2.1 s.2.2.2.2.2.1 s.2.2.2.2.2.2.1 s.2.2.2.2.2.2.2.1 s.2.2.2.2.2.2.2.2.1 s.2.2.2.2.2.2.2.2.2) (fun i s => s.1 = nI (td_tot a b i) ∧ s.2.1 = nI (td_par a b i) ∧ td_ku s.2.2 a) 601 (0, 0, f, a1, a2, a3, a4, a5, a6, a7) ⟨rfl, rfl, hk⟩ ?_ ?_
  · rintro n ⟨x, y, g, b1, b2, b3, b4, b5, b6, b7⟩ ⟨e1, e2, hk1⟩
    have e1' : x = nI (td_tot a b 601) := e1
    have e2' : y = nI (td_par a b 601) := e2
    subst e1' e2'
    refine pk_lt 600 601 (fun _ => br_t ?_ (td_parts hk1 sa sb hs (fun s ss => (F s ss).1) (fun u' hk2 => ?_))) (fun z => absurd z (by omega))
    · rw [pk_mul, T]
    · obtain ⟨g', c1, c2, c3, c4, c5, c6, c7⟩ := u'
      exact br_t rfl (H _)
  · rintro n i ⟨x, y, g, b1, b2, b3, b4, b5, b6, b7⟩ hi ⟨e1, e2, hk1⟩ hw
    have e1' : x = nI (td_tot a b i) := e1
    have e2' : y = nI (td_par a b i) := e2
    subst e1' e2'
    have hk1' : td_ku (g, b1, b2, b3, b4, b5, b6, b7) a := hk1
    refine pk_lt 600 i (fun z => absurd z (by omega)) (fun _ => td_LisShape (s := i) (by omega) (fun si => br_f (by decide) (td_Lsize (s := i) (by omega) (td_Lsize (s := a) (by omega) (td_Lsize (s := b) (by omega) (pk_eq (td_sz i) (td_sz a + td_sz b) (fun z => ?_) (fun z => nm_r (nI_1 i) ?_) rfl (nI_add _ _) (by have := td_z6 si; omega)))))) (fun si => br_t rfl (nm_r (nI_1 i) ?_)))
    · obtain ⟨c1, c2, c3⟩ := F i si
      refine td_times hk1' sa sb si hs c1 (fun u2 hk2 => ?_)
      obtain ⟨g2, p1, p2, p3, p4, p5, p6, p7⟩ := u2
      refine td_keep sb (fun u3 hk3 => ?_)
      obtain ⟨g3, q1, q2, q3, q4, q5, q6, q7⟩ := u3
      refine td_times hk3 sb sa si (by omega) c2 (fun u4 hk4 => ?_)
      obtain ⟨g4, r1, r2, r3, r4, r5, r6, r7⟩ := u4
      refine td_keep si (fun u5 hk5 => ?_)
      obtain ⟨g5, s1, s2, s3, s4, s5, s6, s7⟩ := u5
      refine td_fillings si hk5 (nm_r (show nI (td_tot a b i) + nI (td_lr a b i) * nI (td_dim i) = nI (td_tot a b (i + 1)) by rw [pk_mul, nI_add, td_tot_1 si]) (td_keep sa (fun u6 hk6 => ?_)))
      obtain ⟨g6, t1, t2, t3, t4, t5, t6, t7⟩ := u6
      refine nm_r (show nI (td_par a b i) + nI (td_lr a b i) = nI (td_par a b (i + 1)) by rw [nI_add, td_par_1 si]) (pk_lt (td_lr a b i) 0 (fun z => absurd z (by omega)) (fun _ => br_t rfl (nm_r (nI_1 i) ?_)))
      exact hw (nI (td_tot a b (i + 1)), nI (td_par a b (i + 1)), g6, t1, t2, t3, t4, t5, t6, t7) ⟨rfl, rfl, hk6⟩
    · refine hw (nI (td_tot a b i), nI (td_par a b i), g, b1, b2, b3, b4, b5, b6, b7) ⟨?_, ?_, hk1'⟩
      · show nI (td_tot a b i) = nI (td_tot a b (i + 1))
        rw [td_tot_1 si, td_lr0 z, Nat.zero_mul, Nat.add_zero]
      · show nI (td_par a b i) = nI (td_par a b (i + 1))
        rw [td_par_1 si, td_lr0 z, Nat.add_zero]
    · refine hw (nI (td_tot a b i), nI (td_par a b i), g, b1, b2, b3, b4, b5, b6, b7) ⟨?_, ?_, hk1'⟩
      · show nI (td_tot a b i) = nI (td_tot a b (i + 1))
        rw [td_tot_0 si]
      · show nI (td_par a b i) = nI (td_par a b (i + 1))
        rw [td_par_0 si]
theorem td_product {post : Int32 → St1 → Prop} {u : St1} {a b : Nat} (sa : td_sb a = true) (sb : td_sb b = true) (hs : td_sz a + td_sz b ≤ 6) (H : ∀ u', post 1 u') : wpL_product post u (nI a) (nI b) := by
  obtain ⟨f, a1, a2, a3, a4, a5, a6, a7⟩ := u
  unfold wpL_product
  dsimp only
  refine td_keep sb (fun u1 hk1 => ?_)
  obtain ⟨g1, p1, p2, p3, p4, p5, p6, p7⟩ := u1
  refine td_fillings sb hk1 (td_keep sa (fun u2 hk2 => ?_))
  obtain ⟨g2, q1, q2, q3, q4, q5, q6, q7⟩ := u2
  exact td_fillings sa hk2 (td_p32 sa sb hs hk2 H)
end
section
/-! the law's loop -/
theorem td_m7 (v : Int32) : ∃ x : Nat, x < 7 ∧ (v &&& 255) - (v &&& 255) / 7 * 7 = nI x := by
  obtain ⟨j, hj, e⟩ := pk_andE v (m := 255) 8 (by decide)
  rw [e]
  exact ⟨j % 7, Nat.mod_lt _ (by omega), pk_rem (d := 7) (by omega) (by omega) (by omega)⟩
theorem td_174 {post : Int32 → Prop} {L : Nat} {xs : Nat → Int32} {J : Int32 → Int32 → (Nat → Int32) → (Nat → Int32) → (Nat → Int32) → (Nat → Int32) → (Nat → Int32) → (Nat → Int32) → (Nat → Int32) → Prop} {kc ks i a x y z : Nat} {f : Int32} {a1 a2 a3 a4 a5 a6 a7 : Nat → Int32} (sa : td_sb a = true) (hx : x < 7) (hy : y < 7) (hz : z < 7)
    (H : ∀ (g : Int32) (b1 b2 b3 b4 b5 b6 b7 : Nat → Int32), J (nI (i + 3)) g b1 b2 b3 b4 b5 b6 b7) : wL_law_174 post L xs J (nI i) (nI z) (nI y) (nI x) (nI a) kc ks f a1 a2 a3 a4 a5 a6 a7 := by
  unfold wL_law_174
  refine td_contents sa hx hy hz (fun u' => ?_)
  obtain ⟨g, b1, b2, b3, b4, b5, b6, b7⟩ := u'
  exact br_f (by decide) (nm_r (nI_add i 3) (H g b1 b2 b3 b4 b5 b6 b7))
theorem td_107 {post : Int32 → Prop} {L : Nat} {xs : Nat → Int32} {J : Int32 → Int32 → (Nat → Int32) → (Nat → Int32) → (Nat → Int32) → (Nat → Int32) → (Nat → Int32) → (Nat → Int32) → (Nat → Int32) → Prop} {kc ks i a : Nat} {f : Int32} {a1 a2 a3 a4 a5 a6 a7 : Nat → Int32} (sa : td_sb a = true) (hL : L ≤ 260) (hi : i + 3 ≤ L)
    (H : ∀ (g : Int32) (b1 b2 b3 b4 b5 b6 b7 : Nat → Int32), J (nI (i + 3)) g b1 b2 b3 b4 b5 b6 b7) : wL_law_107 post L xs J (nI i) (nI a) kc ks f a1 a2 a3 a4 a5 a6 a7 := by
  have a6' := td_s6 sa
  have az := td_z6 sa
  unfold wL_law_107
  obtain ⟨x, hx, ex⟩ := td_m7 (xs (nI i + 2).toNatClampNeg)
  obtain ⟨y, hy, ey⟩ := td_m7 (xs (nI i + 2).toNatClampNeg >>> ((8 : Int32) &&& 31))
  rw [ex, ey]
  refine ⟨pk_in (i + 2) L (by omega) (nI_add i 2), by decide, nm_e ⟨pk_in (i + 2) L (by omega) (nI_add i 2), by decide, nm_e (td_Lsize (s := a) (by omega) ?_)⟩⟩
  have E : nI (td_sz a) - nI x - nI y = nI (td_sz a) - nI (x + y) := by
    rw [← nI_add]
    grind
  refine nm_r E (ek_if (td_slt (a := td_sz a) (b := x + y) (r := 0) (by omega) (by omega) (by omega)) (fun z => ?_) (fun z => ?_))
  · unfold wL_law_168
    exact td_174 (z := 1) sa hx hy (by omega) H
  · rw [pk_sub (show x + y ≤ td_sz a by omega)]
    refine pk_le (td_sz a - (x + y)) 6 (fun z1 => td_174 sa hx hy (by omega) H) (fun z1 => absurd z1 (by omega))
theorem i_vc (xs : Nat → Int32) (L : Nat) (hL : L ≤ 260) : wpL_law (fun r => r = 1) L xs := by
  refine ⟨7, 31, by omega, by omega, ?_⟩
  refine ⟨by omega, by omega, by omega, by omega, by omega, by omega, by omega, by omega, by omega, by omega, by omega, by omega, by omega, by omega, ?_⟩
  dsimp only
  refine loop_0 (σ := St1) (fun n k s => wL_law_10 (fun r => r = 1) L xs (1 + 7) (8 + 31) n (nI (3 * k)) s.1 s.2.1 s.2.2.1 s.2.2.2.1 s.2.2.2.2.1 s.2.2.2.2.2.1 s.2.2.2.2.2.2.1 s.2.2.2.2.2.2.2) (fun _ _ => True) (min 12 (L / 3)) (0, (fun _ => 0), (fun _ => 0), (fun _ => 0), (fun _ => 0), (fun _ => 0), (fun _ => 0), (fun _ => 0)) trivial ?_ ?_
  · rintro n ⟨g, b1, b2, b3, b4, b5, b6, b7⟩ _
    have hk : min 12 (L / 3) = 12 ∨ min 12 (L / 3) = L / 3 := by omega
    exact pk_lt L (3 * min 12 (L / 3) + 3) (fun _ => rfl) (fun z => pk_le 36 (3 * min 12 (L / 3)) (fun _ => rfl) (fun z1 => absurd z1 (by omega))) rfl (nI_add _ 3)
  · rintro n k ⟨g, b1, b2, b3, b4, b5, b6, b7⟩ hk _ hw
    have hk1 : k < 12 := by omega
    have hk2 : 3 * k + 3 ≤ L := by omega
    have J : ∀ (g : Int32) (b1 b2 b3 b4 b5 b6 b7 : Nat → Int32), wL_law_10 (fun r => r = 1) L xs (1 + 7) (8 + 31) n (nI (3 * k + 3)) g b1 b2 b3 b4 b5 b6 b7 := fun g b1 b2 b3 b4 b5 b6 b7 => hw (g, b1, b2, b3, b4, b5, b6, b7) trivial
    refine pk_lt L (3 * k + 3) (fun z => absurd z (by omega)) (fun _ => pk_le 36 (3 * k) (fun z => absurd z (by omega)) (fun _ => ⟨pk_in (3 * k) L (by omega), td_shape _ (fun a sa => ⟨pk_in (3 * k + 1) L (by omega) (nI_1 _), td_shape _ (fun b sb => ?_)⟩)⟩)) rfl (nI_add _ 3)
    have a6 := td_s6 sa
    have b6' := td_s6 sb
    have az := td_z6 sa
    have bz := td_z6 sb
    refine td_Lsize (s := a) (by omega) (td_Lsize (s := b) (by omega) (pk_lt 6 (td_sz a + td_sz b) (fun z => td_keep sa (fun u1 hk1 => ?_)) (fun z => td_product sa sb z (fun u1 => ?_)) rfl (nI_add _ _)))
    · obtain ⟨g1, p1, p2, p3, p4, p5, p6, p7⟩ := u1
      exact td_partsN hk1 sa sb z (br_t rfl (td_greatestN hk1 sa sb z (br_t rfl (td_timesN hk1 sa sb sa z (br_t rfl (td_107 sa hL hk2 J))))))
    · obtain ⟨g1, p1, p2, p3, p4, p5, p6, p7⟩ := u1
      exact br_f (by decide) (td_107 sa hL hk2 J)
end

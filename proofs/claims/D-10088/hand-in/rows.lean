section
/-! the pure picture: f, s: the arcs of each block (0: none, c + 1: to block c); w: ways on; H: heads -/
def zq_own (f s : Nat → Nat) (b : Nat) : Nat := if f b ≤ b + 1 ∨ (1 ≤ s b ∧ s b ≤ b + 1) then 1 else 0
def zq_wt (w : Nat → Nat) (b d : Nat) : Nat := if b + 1 < d then w (d - 1) else 0
def zq_wf (f s : Nat → Nat) : Prop := ∀ b, b < 9 → f b ≤ 9 ∧ s b ≤ 9 ∧ (f b = s b → f b = 0) ∧ (f b = 0 → s b = 0)
def zq_we (f s w : Nat → Nat) (i : Nat) : Prop := ∀ b, i ≤ b → b < 9 → w b = zq_own f s b + zq_wt w b (f b) + zq_wt w b (s b)
def zq_fb : Nat → Nat
  | 0 => 55 | 1 => 34 | 2 => 21 | 3 => 13 | 4 => 8 | 5 => 5 | 6 => 3 | 7 => 2 | _ => 1
theorem zq_fbm : ∀ i, i < 9 → ∀ j, j < 9 → i ≤ j → zq_fb j ≤ zq_fb i := by decide
theorem zq_fb1 : ∀ b, b < 8 → 1 + zq_fb (b + 1) ≤ zq_fb b := by decide
theorem zq_fb2 : ∀ b, b < 7 → zq_fb (b + 1) + zq_fb (b + 2) ≤ zq_fb b := by decide
theorem zq_fb0 : ∀ b, b < 9 → 1 ≤ zq_fb b := by decide
theorem zq_fbx : ∀ b, b < 9 → zq_fb b ≤ 55 := by decide
theorem zq_own01 (f s : Nat → Nat) (b : Nat) : (zq_own f s b = 1 ∧ (f b ≤ b + 1 ∨ (1 ≤ s b ∧ s b ≤ b + 1))) ∨ (zq_own f s b = 0 ∧ b + 1 < f b ∧ (s b = 0 ∨ b + 1 < s b)) := by
  unfold zq_own
  by_cases h : f b ≤ b + 1 ∨ (1 ≤ s b ∧ s b ≤ b + 1)
  · rw [if_pos h]
    exact Or.inl ⟨rfl, h⟩
  · rw [if_neg h]
    refine Or.inr ⟨rfl, ?_, ?_⟩ <;> omega
theorem zq_wt01 (w : Nat → Nat) (b d : Nat) : (d ≤ b + 1 ∧ zq_wt w b d = 0) ∨ (b + 1 < d ∧ zq_wt w b d = w (d - 1)) := by
  unfold zq_wt
  by_cases h : b + 1 < d
  · rw [if_pos h]
    exact Or.inr ⟨h, rfl⟩
  · rw [if_neg h]
    exact Or.inl ⟨by omega, rfl⟩
theorem zq_bst {f s w : Nat → Nat} {b : Nat} (hb : b < 9) (hwf : zq_wf f s) (hw : w b = zq_own f s b + zq_wt w b (f b) + zq_wt w b (s b)) (ih : ∀ c, b < c → c < 9 → 1 ≤ w c ∧ w c ≤ zq_fb c) : 1 ≤ w b ∧ w b ≤ zq_fb b := by
  obtain ⟨h1, h2, h3, h4⟩ := hwf b hb
  have hX : ∀ d, d ≤ 9 → (d ≤ b + 1 ∧ zq_wt w b d = 0) ∨ (b + 1 < d ∧ 1 ≤ zq_wt w b d ∧ zq_wt w b d ≤ zq_fb (d - 1)) := by
    intro d hd
    rcases zq_wt01 w b d with h | ⟨h5, h6⟩
    · exact Or.inl h
    · rw [h6]
      exact Or.inr ⟨h5, ih (d - 1) (by omega) (by omega)⟩
  have hp := zq_fb0 b hb
  rcases hX (f b) h1 with ⟨a1, a2⟩ | ⟨a1, a2, a3⟩
  · rcases hX (s b) h2 with ⟨b1, b2⟩ | ⟨b1, b2, b3⟩
    · rcases zq_own01 f s b with ⟨o, _⟩ | ⟨o, o1, _⟩
      · omega
      · omega
    · have q := zq_fbm (b + 1) (by omega) (s b - 1) (by omega) (by omega)
      have q2 := zq_fb1 b (by omega)
      rcases zq_own01 f s b with ⟨o, _⟩ | ⟨o, o1, _⟩
      · omega
      · omega
  · rcases hX (s b) h2 with ⟨b1, b2⟩ | ⟨b1, b2, b3⟩
    · have q := zq_fbm (b + 1) (by omega) (f b - 1) (by omega) (by omega)
      have q2 := zq_fb1 b (by omega)
      rcases zq_own01 f s b with ⟨o, _⟩ | ⟨o, o1, _⟩
      · omega
      · omega
    · have n : f b ≠ s b := fun e => by have := h3 e; omega
      have o : zq_own f s b = 0 := by
        rcases zq_own01 f s b with ⟨o, o1⟩ | ⟨o, o1, _⟩
        · omega
        · exact o
      have q2 := zq_fb2 b (by omega)
      rcases Nat.lt_or_ge (f b) (s b) with z | z
      · have q := zq_fbm (b + 1) (by omega) (f b - 1) (by omega) (by omega)
        have q3 := zq_fbm (b + 2) (by omega) (s b - 1) (by omega) (by omega)
        omega
      · have q := zq_fbm (b + 1) (by omega) (s b - 1) (by omega) (by omega)
        have q3 := zq_fbm (b + 2) (by omega) (f b - 1) (by omega) (by omega)
        omega
theorem zq_bnd {f s w : Nat → Nat} {i : Nat} (hwf : zq_wf f s) (hwe : zq_we f s w i) : ∀ b, i ≤ b → b < 9 → 1 ≤ w b ∧ w b ≤ zq_fb b := by
  have key : ∀ n b, 9 - b ≤ n → i ≤ b → b < 9 → 1 ≤ w b ∧ w b ≤ zq_fb b := by
    intro n
    induction n with
    | zero => intro b h1 h2 h3; omega
    | succ n ih => intro b h1 h2 h3; exact zq_bst h3 hwf (hwe b h2 h3) (fun c hc h9 => ih c (by omega) (by omega) h9)
  exact fun b h1 h2 => key 9 b (by omega) h1 h2
/-- the numbers of the heads' paths -/
def zq_hs (H : Nat → Bool) (w : Nat → Nat) : Nat → Nat
  | 0 => 0
  | b + 1 => zq_hs H w b + (if H b = true then w b else 0)
theorem zq_hs_s {H : Nat → Bool} {w : Nat → Nat} {b : Nat} (h : H b = true) : zq_hs H w (b + 1) = zq_hs H w b + w b := by
  show zq_hs H w b + (if H b = true then w b else 0) = _
  rw [if_pos h]
theorem zq_hs_n {H : Nat → Bool} {w : Nat → Nat} {b : Nat} (h : H b = false) : zq_hs H w (b + 1) = zq_hs H w b := by
  show zq_hs H w b + (if H b = true then w b else 0) = _
  rw [if_neg (by rw [h]; decide), Nat.add_zero]
theorem zq_hs_m {H : Nat → Bool} {w : Nat → Nat} {i j : Nat} (h : i ≤ j) : zq_hs H w i ≤ zq_hs H w j := by
  induction h with
  | refl => exact Nat.le_refl _
  | step _ ih => exact Nat.le_trans ih (Nat.le_add_right _ _)
theorem zq_hs9 {H : Nat → Bool} {w : Nat → Nat} (hb : ∀ b, b < 9 → w b ≤ zq_fb b) : zq_hs H w 9 ≤ 142 := by
  have st : ∀ b, b < 9 → zq_hs H w (b + 1) ≤ zq_hs H w b + zq_fb b := by
    intro b h
    have := hb b h
    cases e : H b with
    | false => rw [zq_hs_n e]; omega
    | true => rw [zq_hs_s e]; omega
  have z : zq_hs H w 0 = 0 := rfl
  have h0 : zq_hs H w 1 ≤ zq_hs H w 0 + 55 := st 0 (by omega)
  have h1 : zq_hs H w 2 ≤ zq_hs H w 1 + 34 := st 1 (by omega)
  have h2 : zq_hs H w 3 ≤ zq_hs H w 2 + 21 := st 2 (by omega)
  have h3 : zq_hs H w 4 ≤ zq_hs H w 3 + 13 := st 3 (by omega)
  have h4 : zq_hs H w 5 ≤ zq_hs H w 4 + 8 := st 4 (by omega)
  have h5 : zq_hs H w 6 ≤ zq_hs H w 5 + 5 := st 5 (by omega)
  have h6 : zq_hs H w 7 ≤ zq_hs H w 6 + 3 := st 6 (by omega)
  have h7 : zq_hs H w 8 ≤ zq_hs H w 7 + 2 := st 7 (by omega)
  have h8 : zq_hs H w 9 ≤ zq_hs H w 8 + 1 := st 8 (by omega)
  omega
/-! paths: the blocks behind b, and their number -/
def zq_vd (f s : Nat → Nat) : Nat → List Nat → Prop
  | b, [] => zq_own f s b = 1
  | b, c :: l => b < c ∧ c < 9 ∧ (f b = c + 1 ∨ s b = c + 1) ∧ zq_vd f s c l
def zq_ad (f s w : Nat → Nat) (b c : Nat) : Nat := if f b = c + 1 then zq_own f s b else zq_own f s b + zq_wt w b (f b)
def zq_nm (f s w : Nat → Nat) : Nat → List Nat → Nat
  | _, [] => 0
  | b, c :: l => zq_ad f s w b c + zq_nm f s w c l
theorem zq_ad_le {f s w : Nat → Nat} {b c : Nat} (hb : b < 9) (hwe : zq_we f s w 0) (hc : b < c) (hl : f b = c + 1 ∨ s b = c + 1) : zq_ad f s w b c + w c ≤ w b := by
  have hw := hwe b (Nat.zero_le b) hb
  unfold zq_ad
  by_cases e : f b = c + 1
  · rw [if_pos e]
    have h : zq_wt w b (f b) = w c := by
      unfold zq_wt
      rw [if_pos (by omega), e]
      rfl
    omega
  · rw [if_neg e]
    have e2 : s b = c + 1 := by omega
    have h : zq_wt w b (s b) = w c := by
      unfold zq_wt
      rw [if_pos (by omega), e2]
      rfl
    omega
theorem zq_nm_lt {f s w : Nat → Nat} (hwf : zq_wf f s) (hwe : zq_we f s w 0) : ∀ l b, b < 9 → zq_vd f s b l → zq_nm f s w b l < w b := by
  intro l
  induction l with
  | nil => intro b hb h; exact (zq_bnd hwf hwe b (Nat.zero_le b) hb).1
  | cons c l ih =>
    intro b hb h
    obtain ⟨h1, h2, h3, h4⟩ := h
    have q := ih c h2 h4
    have q2 := zq_ad_le hb hwe h1 h3
    show zq_ad f s w b c + zq_nm f s w c l < w b
    omega
theorem zq_ex {f s w : Nat → Nat} (hwf : zq_wf f s) (hwe : zq_we f s w 0) : ∀ n b r, 9 - b ≤ n → b < 9 → r < w b → ∃ l, zq_vd f s b l ∧ zq_nm f s w b l = r := by
  intro n
  induction n with
  | zero => intro b r h1 h2; omega
  | succ n ih =>
    intro b r hn hb hr
    have hw := hwe b (Nat.zero_le b) hb
    obtain ⟨h1, h2, h3, h4⟩ := hwf b hb
    by_cases c1 : r < zq_own f s b
    · rcases zq_own01 f s b with ⟨o, _⟩ | ⟨o, _⟩
      · exact ⟨[], o, by show 0 = r; omega⟩
      · omega
    · by_cases c2 : r - zq_own f s b < zq_wt w b (f b)
      · rcases zq_wt01 w b (f b) with ⟨e1, e2⟩ | ⟨e1, e2⟩
        · omega
        · obtain ⟨l, q1, q2⟩ := ih (f b - 1) (r - zq_own f s b) (by omega) (by omega) (by omega)
          refine ⟨(f b - 1) :: l, ⟨by omega, by omega, Or.inl (by omega), q1⟩, ?_⟩
          have h : zq_ad f s w b (f b - 1) = zq_own f s b := by
            unfold zq_ad
            rw [if_pos (by omega)]
          show zq_ad f s w b (f b - 1) + zq_nm f s w (f b - 1) l = r
          omega
      · rcases zq_wt01 w b (s b) with ⟨e1, e2⟩ | ⟨e1, e2⟩
        · omega
        · obtain ⟨l, q1, q2⟩ := ih (s b - 1) (r - zq_own f s b - zq_wt w b (f b)) (by omega) (by omega) (by omega)
          refine ⟨(s b - 1) :: l, ⟨by omega, by omega, Or.inr (by omega), q1⟩, ?_⟩
          have h : zq_ad f s w b (s b - 1) = zq_own f s b + zq_wt w b (f b) := by
            unfold zq_ad
            rw [if_neg (fun z => by have := h3 (by omega); omega)]
          show zq_ad f s w b (s b - 1) + zq_nm f s w (s b - 1) l = r
          omega
theorem zq_vd_len {f s : Nat → Nat} : ∀ l b, b < 9 → zq_vd f s b l → b + l.length ≤ 8 := by
  intro l
  induction l with
  | nil => intro b hb _; show b + 0 ≤ 8; omega
  | cons c l ih =>
    intro b hb h
    obtain ⟨h1, h2, h3, h4⟩ := h
    have q := ih c h2 h4
    show b + (l.length + 1) ≤ 8
    omega
theorem zq_hd {H : Nat → Bool} {w : Nat → Nat} {k : Nat} : ∀ n, k < zq_hs H w n → ∃ h, h < n ∧ H h = true ∧ zq_hs H w h ≤ k ∧ k < zq_hs H w h + w h := by
  intro n
  induction n with
  | zero => intro h; exact absurd h (Nat.not_lt_zero _)
  | succ n ih =>
    intro h
    by_cases c : k < zq_hs H w n
    · obtain ⟨a, h1, h2⟩ := ih c
      exact ⟨a, by omega, h2⟩
    · cases e : H n with
      | false => rw [zq_hs_n e] at h; exact absurd h c
      | true => rw [zq_hs_s e] at h; exact ⟨n, by omega, e, by omega, h⟩
theorem zq_hdu {H : Nat → Bool} {w : Nat → Nat} {k h g : Nat} (a1 : H h = true) (a2 : zq_hs H w h ≤ k) (a3 : k < zq_hs H w h + w h) (b1 : H g = true) (b2 : zq_hs H w g ≤ k) (b3 : k < zq_hs H w g + w g) : h = g := by
  rcases Nat.lt_trichotomy h g with z | z | z
  · have q : zq_hs H w (h + 1) ≤ zq_hs H w g := zq_hs_m z
    rw [zq_hs_s a1] at q
    omega
  · exact z
  · have q : zq_hs H w (g + 1) ≤ zq_hs H w h := zq_hs_m z
    rw [zq_hs_s b1] at q
    omega
/-- the list of blocks of each number -/
def zq_pt (f s w : Nat → Nat) (H : Nat → Bool) (pth : Nat → List Nat) : Prop := ∀ k, k < zq_hs H w 9 → ∃ h l, pth k = h :: l ∧ h < 9 ∧ H h = true ∧ zq_vd f s h l ∧ k = zq_hs H w h + zq_nm f s w h l
theorem zq_pex {f s w : Nat → Nat} (H : Nat → Bool) (hwf : zq_wf f s) (hwe : zq_we f s w 0) : ∃ pth, zq_pt f s w H pth := by
  have q : ∀ k, ∃ p : List Nat, k < zq_hs H w 9 → ∃ h l, p = h :: l ∧ h < 9 ∧ H h = true ∧ zq_vd f s h l ∧ k = zq_hs H w h + zq_nm f s w h l := by
    intro k
    by_cases c : k < zq_hs H w 9
    · obtain ⟨h, h1, h2, h3, h4⟩ := zq_hd 9 c
      obtain ⟨l, l1, l2⟩ := zq_ex hwf hwe 9 h (k - zq_hs H w h) (by omega) h1 (by omega)
      exact ⟨h :: l, fun _ => ⟨h, l, rfl, h1, h2, l1, by omega⟩⟩
    · exact ⟨[], fun z => absurd z c⟩
  exact Classical.axiomOfChoice q
/-! codes -/
def zq_cd : Nat → List Nat → Nat
  | a, [] => a
  | a, c :: l => zq_cd (a * 10 + c + 1) l
theorem zq_cd_sp : ∀ l a, zq_cd a l = a * 10 ^ l.length + zq_cd 0 l := by
  intro l
  induction l with
  | nil => intro a; show a = a * 10 ^ 0 + 0; omega
  | cons c l ih =>
    intro a
    have e1 : zq_cd a (c :: l) = zq_cd (a * 10 + c + 1) l := rfl
    have e2 : zq_cd 0 (c :: l) = zq_cd (0 * 10 + c + 1) l := rfl
    have e3 : (c :: l).length = l.length + 1 := rfl
    rw [e1, e2, e3, ih (a * 10 + c + 1), ih (0 * 10 + c + 1), Nat.pow_succ]
    generalize 10 ^ l.length = p
    generalize zq_cd 0 l = x
    have e4 : (a * 10 + c + 1) * p = a * (p * 10) + (0 * 10 + c + 1) * p := by
      rw [Nat.zero_mul, Nat.zero_add, Nat.add_assoc, Nat.add_mul, Nat.mul_assoc, Nat.mul_comm 10 p]
    omega
theorem zq_cd_lt : ∀ l : List Nat, (∀ c, c ∈ l → c < 9) → zq_cd 0 l < 10 ^ l.length := by
  intro l
  induction l with
  | nil => intro _; exact Nat.one_pos
  | cons c l ih =>
    intro h
    have q := ih (fun d hd => h d (List.mem_cons_of_mem c hd))
    have e2 : zq_cd 0 (c :: l) = zq_cd (0 * 10 + c + 1) l := rfl
    have e3 : (c :: l).length = l.length + 1 := rfl
    have hc := h c List.mem_cons_self
    rw [e2, e3, zq_cd_sp, Nat.pow_succ]
    generalize 10 ^ l.length = p at q ⊢
    have z : (0 * 10 + c + 1) * p ≤ 9 * p := Nat.mul_le_mul_right p (by omega)
    omega
theorem zq_vd_mem {f s : Nat → Nat} : ∀ l b, zq_vd f s b l → ∀ c, c ∈ l → b < c ∧ c < 9 := by
  intro l
  induction l with
  | nil => intro b _ c hc; exact absurd hc List.not_mem_nil
  | cons d l ih =>
    intro b h c hc
    obtain ⟨h1, h2, h3, h4⟩ := h
    rcases List.mem_cons.mp hc with e | e
    · rw [e]
      exact ⟨h1, h2⟩
    · have q := ih d h4 c e
      exact ⟨by omega, q.2⟩
theorem zq_vd_pw {f s : Nat → Nat} : ∀ l b, zq_vd f s b l → (b :: l).Pairwise (· < ·) := by
  intro l
  induction l with
  | nil => intro b _; exact List.pairwise_singleton _ _
  | cons d l ih =>
    intro b h
    exact List.pairwise_cons.mpr ⟨fun c hc => (zq_vd_mem (d :: l) b h c hc).1, ih d h.2.2.2⟩
theorem zq_vd_last {f s : Nat → Nat} : ∀ l b, zq_vd f s b l → zq_own f s ((b :: l).getD l.length 0) = 1 := by
  intro l
  induction l with
  | nil => intro b h; exact h
  | cons d l ih => intro b h; exact ih d h.2.2.2
end
section
/-! sums over naturals -/
def zq_sm (g : Nat → Nat) : Nat → Nat
  | 0 => 0
  | n + 1 => zq_sm g n + g n
theorem zq_sm_le {g h : Nat → Nat} : ∀ n, (∀ k, k < n → g k ≤ h k) → zq_sm g n ≤ zq_sm h n := by
  intro n
  induction n with
  | zero => intro _; exact Nat.le_refl _
  | succ n ih =>
    intro q
    exact Nat.add_le_add (ih (fun k hk => q k (by omega))) (q n (by omega))
theorem zq_sm_eq {g h : Nat → Nat} : ∀ n, (∀ k, k < n → g k = h k) → zq_sm g n = zq_sm h n := by
  intro n q
  exact Nat.le_antisymm (zq_sm_le n (fun k hk => Nat.le_of_eq (q k hk))) (zq_sm_le n (fun k hk => Nat.le_of_eq (q k hk).symm))
theorem zq_sm_z {g : Nat → Nat} : ∀ n, (∀ k, k < n → g k = 0) → zq_sm g n = 0 := by
  intro n
  induction n with
  | zero => intro _; rfl
  | succ n ih =>
    intro q
    show zq_sm g n + g n = 0
    rw [ih (fun k hk => q k (by omega)), q n (by omega)]
theorem zq_sm_z' {g : Nat → Nat} : ∀ n, zq_sm g n = 0 → ∀ k, k < n → g k = 0 := by
  intro n
  induction n with
  | zero => intro _ k hk; omega
  | succ n ih =>
    intro q k hk
    have q2 : zq_sm g n + g n = 0 := q
    by_cases e : k = n
    · rw [e]
      omega
    · exact ih (by omega) k (by omega)
theorem zq_sm_add (g h : Nat → Nat) : ∀ n, zq_sm (fun k => g k + h k) n = zq_sm g n + zq_sm h n := by
  intro n
  induction n with
  | zero => rfl
  | succ n ih =>
    show zq_sm (fun k => g k + h k) n + (g n + h n) = (zq_sm g n + g n) + (zq_sm h n + h n)
    omega
theorem zq_sm_bd {g : Nat → Nat} {M : Nat} : ∀ n, (∀ k, k < n → g k ≤ M) → zq_sm g n ≤ n * M := by
  intro n
  induction n with
  | zero => intro _; exact Nat.zero_le _
  | succ n ih =>
    intro q
    have h1 := ih (fun k hk => q k (by omega))
    have h2 := q n (by omega)
    show zq_sm g n + g n ≤ (n + 1) * M
    rw [Nat.succ_mul]
    omega
theorem zq_sm_mn {g : Nat → Nat} {m n : Nat} (h : m ≤ n) : zq_sm g m ≤ zq_sm g n := by
  induction h with
  | refl => exact Nat.le_refl _
  | step _ ih => exact Nat.le_trans ih (Nat.le_add_right _ _)
theorem zq_sm_swap (t : Nat → Nat → Nat) (n : Nat) : ∀ m, zq_sm (fun c => zq_sm (fun k => t c k) n) m = zq_sm (fun k => zq_sm (fun c => t c k) m) n := by
  intro m
  induction m with
  | zero => exact (zq_sm_z n (fun k _ => rfl)).symm
  | succ m ih =>
    show zq_sm (fun c => zq_sm (fun k => t c k) n) m + zq_sm (fun k => t m k) n = zq_sm (fun k => zq_sm (fun c => t c k) m + t m k) n
    rw [ih, zq_sm_add]
theorem zq_sm_one {p : Nat → Bool} {x : Nat} : ∀ n c, c < n → p c = true → (∀ c d, p c = true → p d = true → c = d) → zq_sm (fun c => if p c = true then x else 0) n = x := by
  intro n
  induction n with
  | zero => intro c hc; omega
  | succ n ih =>
    intro c hc hp hu
    show zq_sm (fun c => if p c = true then x else 0) n + (if p n = true then x else 0) = x
    by_cases e : c = n
    · rw [zq_sm_z n (fun k hk => if_neg (fun z => by have := hu k c z hp; omega)), if_pos (by rw [← e]; exact hp), Nat.zero_add]
    · rw [ih c (by omega) hp hu, if_neg (fun z => e (hu c n hp z)), Nat.add_zero]
theorem zq_sm_un {p : Nat → Bool} {x : Nat} (n : Nat) (hu : ∀ c d, p c = true → p d = true → c = d) : zq_sm (fun c => if p c = true then x else 0) n ≤ x := by
  by_cases e : ∃ c, c < n ∧ p c = true
  · obtain ⟨c, h1, h2⟩ := e
    exact Nat.le_of_eq (zq_sm_one n c h1 h2 hu)
  · rw [zq_sm_z n (fun k hk => if_neg (fun z => e ⟨k, hk, z⟩))]
    exact Nat.zero_le _
theorem zq_sm_l (g : Nat → Nat) : ∀ n, ((List.range n).map g).sum = zq_sm g n := by
  intro n
  induction n with
  | zero => rfl
  | succ n ih =>
    rw [List.range_succ, List.map_append, List.sum_append_nat, ih]
    show zq_sm g n + (g n + 0) = zq_sm g n + g n
    rw [Nat.add_zero]
/-! sorted: v holds the codes of the numbers below n in order -/
def zq_so (cd : Nat → Nat) (n : Nat) (v : Nat → Nat) : Prop := (∀ i j, i < j → j < n → v i ≤ v j) ∧ List.Perm ((List.range n).map v) ((List.range n).map cd)
def zq_in (v : Nat → Nat) (p x : Nat) : Nat → Nat := fun m => if m < p then v m else if m = p then x else v (m - 1)
theorem zq_in_lt {v : Nat → Nat} {p x m : Nat} (h : m < p) : zq_in v p x m = v m := if_pos h
theorem zq_in_eq {v : Nat → Nat} {p x : Nat} : zq_in v p x p = x := by
  unfold zq_in
  rw [if_neg (Nat.lt_irrefl p), if_pos rfl]
theorem zq_in_gt {v : Nat → Nat} {p x m : Nat} (h : p < m) : zq_in v p x m = v (m - 1) := by
  unfold zq_in
  rw [if_neg (by omega), if_neg (by omega)]
theorem zq_in_pm (v : Nat → Nat) (p x : Nat) : ∀ n, p ≤ n → List.Perm ((List.range (n + 1)).map (zq_in v p x)) (x :: (List.range n).map v) := by
  intro n h
  induction h with
  | refl =>
    have e : (List.range p).map (zq_in v p x) = (List.range p).map v := List.map_congr_left (fun a ha => zq_in_lt (List.mem_range.mp ha))
    rw [List.range_succ, List.map_append, e]
    have e2 : List.map (zq_in v p x) [p] = [x] := by
      show [zq_in v p x p] = [x]
      rw [zq_in_eq]
    rw [e2]
    exact List.perm_append_singleton _ _
  | step h ih =>
    rename_i n
    have e2 : List.map (zq_in v p x) [n + 1] = [v n] := by
      show [zq_in v p x (n + 1)] = [v n]
      rw [zq_in_gt (Nat.lt_succ_of_le h)]
      rfl
    have e3 : (List.range (n + 1)).map v = (List.range n).map v ++ [v n] := by rw [List.range_succ, List.map_append]; rfl
    rw [List.range_succ, List.map_append, e2, e3]
    exact List.Perm.append_right [v n] ih
theorem zq_in_so {cd v : Nat → Nat} {n p : Nat} (h : zq_so cd n v) (hp : p ≤ n) (h1 : ∀ m, m < p → v m ≤ cd n) (h2 : ∀ m, p ≤ m → m < n → cd n < v m) : zq_so cd (n + 1) (zq_in v p (cd n)) := by
  refine ⟨fun i j hij hj => ?_, ?_⟩
  · rcases Nat.lt_trichotomy i p with a | a | a
    · rw [zq_in_lt a]
      rcases Nat.lt_trichotomy j p with b | b | b
      · rw [zq_in_lt b]
        exact h.1 i j hij (by omega)
      · rw [b, zq_in_eq]
        exact h1 i a
      · rw [zq_in_gt b]
        by_cases c : i = j - 1
        · rw [c]
          exact Nat.le_refl _
        · exact h.1 i (j - 1) (by omega) (by omega)
    · rw [a, zq_in_eq, zq_in_gt (by omega)]
      exact Nat.le_of_lt (h2 (j - 1) (by omega) (by omega))
    · rw [zq_in_gt a, zq_in_gt (by omega)]
      exact h.1 (i - 1) (j - 1) (by omega) (by omega)
  · have e3 : (List.range (n + 1)).map cd = (List.range n).map cd ++ [cd n] := by rw [List.range_succ, List.map_append]; rfl
    rw [e3]
    exact (zq_in_pm v p (cd n) n hp).trans ((List.Perm.cons (cd n) h.2).trans (List.perm_append_singleton _ _).symm)
theorem zq_so_pw {v : Nat → Nat} {n : Nat} {R : Nat → Nat → Prop} (h : ∀ i j, i < j → j < n → R (v i) (v j)) : ((List.range n).map v).Pairwise R := by
  rw [List.pairwise_map]
  exact List.Pairwise.imp_of_mem (fun {a b} ha hb hab => h a b hab (List.mem_range.mp hb)) List.pairwise_lt_range
theorem zq_so_rng {v u : Nat → Nat} {n : Nat} (h : (List.range n).map v = (List.range n).map u) : ∀ k, k < n → v k = u k := by
  intro k hk
  exact List.map_inj_left.mp h k (List.mem_range.mpr hk)
theorem zq_so_un {cd v u : Nat → Nat} {n : Nat} (h : zq_so cd n v) (g : zq_so cd n u) : ∀ k, k < n → v k = u k :=
  zq_so_rng (List.Perm.eq_of_pairwise (le := (· ≤ ·)) (fun a b _ _ h1 h2 => Nat.le_antisymm h1 h2) (zq_so_pw h.1) (zq_so_pw g.1) (h.2.trans g.2.symm))
theorem zq_so_sum {cd v : Nat → Nat} {n : Nat} (h : zq_so cd n v) (g : Nat → Nat) : zq_sm (fun k => g (v k)) n = zq_sm (fun k => g (cd k)) n := by
  have q := List.Perm.sum_nat (h.2.map g)
  rw [List.map_map, List.map_map, zq_sm_l, zq_sm_l] at q
  exact q
theorem zq_so_mem {cd v : Nat → Nat} {n k : Nat} (h : zq_so cd n v) (hk : k < n) : ∃ m, m < n ∧ v k = cd m := by
  have q : v k ∈ (List.range n).map cd := h.2.subset (List.mem_map.mpr ⟨k, List.mem_range.mpr hk, rfl⟩)
  obtain ⟨m, h1, h2⟩ := List.mem_map.mp q
  exact ⟨m, List.mem_range.mp h1, h2.symm⟩
theorem zq_so_st {cd v : Nat → Nat} {n : Nat} (h : zq_so cd n v) (hi : ∀ a b, a < n → b < n → cd a = cd b → a = b) : ∀ i j, i < j → j < n → v i < v j := by
  intro i j hij hj
  have nd : ((List.range n).map cd).Pairwise (· ≠ ·) := zq_so_pw (fun a b hab hb e => by have := hi a b (by omega) hb e; omega)
  have nv : ((List.range n).map v).Nodup := List.Perm.nodup h.2.symm nd
  have nv2 : (List.range n).Pairwise (fun a b => v a ≠ v b) := List.pairwise_map.mp nv
  have q := List.pairwise_iff_getElem.mp nv2 i j (by rw [List.length_range]; omega) (by rw [List.length_range]; omega) hij
  rw [List.getElem_range, List.getElem_range] at q
  have q2 := h.1 i j hij hj
  omega
theorem zq_so_ex (cd : Nat → Nat) : ∀ n, ∃ v, zq_so cd n v := by
  intro n
  induction n with
  | zero => exact ⟨cd, fun i j _ hj => absurd hj (Nat.not_lt_zero j), List.Perm.refl _⟩
  | succ n ih =>
    obtain ⟨v, hv⟩ := ih
    have q : ∀ m, m ≤ n → ∃ p, p ≤ m ∧ (∀ j, j < p → v j ≤ cd n) ∧ (∀ j, p ≤ j → j < m → cd n < v j) := by
      intro m
      induction m with
      | zero => intro _; exact ⟨0, Nat.le_refl 0, fun j hj => absurd hj (Nat.not_lt_zero j), fun j _ hj => absurd hj (Nat.not_lt_zero j)⟩
      | succ m im =>
        intro hm
        by_cases c : v m ≤ cd n
        · refine ⟨m + 1, Nat.le_refl _, fun j hj => ?_, fun j h1 h2 => absurd h2 (by omega)⟩
          by_cases e : j = m
          · rw [e]
            exact c
          · exact Nat.le_trans (hv.1 j m (by omega) (by omega)) c
        · obtain ⟨p, p1, p2, p3⟩ := im (by omega)
          refine ⟨p, by omega, p2, fun j h1 h2 => ?_⟩
          by_cases e : j = m
          · rw [e]
            omega
          · exact p3 j h1 (by omega)
    obtain ⟨p, p1, p2, p3⟩ := q n (Nat.le_refl n)
    exact ⟨_, zq_in_so hv p1 p2 p3⟩
/-! codes are apart -/
theorem zq_cd_inj : ∀ (l m : List Nat) (a b : Nat), (∀ c, c ∈ l → c < 9) → (∀ c, c ∈ m → c < 9) → l.length = m.length → zq_cd a l = zq_cd b m → a = b ∧ l = m := by
  intro l
  induction l with
  | nil =>
    intro m a b _ _ hl h
    cases m with
    | nil => exact ⟨h, rfl⟩
    | cons d m => exact absurd hl (by simp)
  | cons c l ih =>
    intro m a b h1 h2 hl h
    cases m with
    | nil => exact absurd hl (by simp)
    | cons d m =>
      have q := ih m (a * 10 + c + 1) (b * 10 + d + 1) (fun e he => h1 e (List.mem_cons_of_mem c he)) (fun e he => h2 e (List.mem_cons_of_mem d he)) (by simpa using hl) h
      have q1 := q.1
      have hc := h1 c List.mem_cons_self
      have hd := h2 d List.mem_cons_self
      have e1 : c = d := by omega
      have e2 : a = b := by omega
      rw [e1, e2, q.2]
      exact ⟨rfl, rfl⟩
theorem zq_cd_ge (h : Nat) (l : List Nat) : 10 ^ l.length ≤ zq_cd 0 (h :: l) := by
  have e2 : zq_cd 0 (h :: l) = zq_cd (0 * 10 + h + 1) l := rfl
  rw [e2, zq_cd_sp]
  have z : 1 * 10 ^ l.length ≤ (0 * 10 + h + 1) * 10 ^ l.length := Nat.mul_le_mul_right _ (by omega)
  omega
theorem zq_cd_inj2 {g h : Nat} {l m : List Nat} (h1 : ∀ c, c ∈ g :: l → c < 9) (h2 : ∀ c, c ∈ h :: m → c < 9) (e : zq_cd 0 (g :: l) = zq_cd 0 (h :: m)) : g :: l = h :: m := by
  have a1 := zq_cd_ge g l
  have a2 : zq_cd 0 (g :: l) < 10 ^ (l.length + 1) := zq_cd_lt (g :: l) h1
  have b1 := zq_cd_ge h m
  have b2 : zq_cd 0 (h :: m) < 10 ^ (m.length + 1) := zq_cd_lt (h :: m) h2
  have el : l.length = m.length := by
    rcases Nat.lt_trichotomy l.length m.length with z | z | z
    · have q : 10 ^ (l.length + 1) ≤ 10 ^ m.length := Nat.pow_le_pow_right (by decide) z
      omega
    · exact z
    · have q : 10 ^ (m.length + 1) ≤ 10 ^ l.length := Nat.pow_le_pow_right (by decide) z
      omega
  exact (zq_cd_inj (g :: l) (h :: m) 0 0 h1 h2 (by simp [el]) e).2
end
section
/-! blocks and arcs of a path -/
def zq_at (p : List Nat) : Nat → Nat := fun j => p.getD j 0
def zq_fn (a : Nat → Nat) (b : Nat) : Nat → Bool
  | 0 => false
  | n + 1 => zq_fn a b n || (a n == b)
def zq_ar (a : Nat → Nat) (b c : Nat) : Nat → Bool
  | 0 => false
  | n + 1 => zq_ar a b c n || (a n == b && a (n + 1) == c)
theorem zq_fn_i {a : Nat → Nat} {b : Nat} : ∀ n, zq_fn a b n = true ↔ ∃ i, i < n ∧ a i = b := by
  intro n
  induction n with
  | zero => exact ⟨fun h => absurd h Bool.false_ne_true, fun ⟨i, h, _⟩ => absurd h (Nat.not_lt_zero i)⟩
  | succ n ih =>
    show (zq_fn a b n || (a n == b)) = true ↔ _
    rw [Bool.or_eq_true, ih, beq_iff_eq]
    constructor
    · intro q
      rcases q with ⟨i, h1, h2⟩ | h
      · exact ⟨i, by omega, h2⟩
      · exact ⟨n, by omega, h⟩
    · intro q
      obtain ⟨i, h1, h2⟩ := q
      by_cases e : i = n
      · exact Or.inr (by rw [← e]; exact h2)
      · exact Or.inl ⟨i, by omega, h2⟩
theorem zq_ar_i {a : Nat → Nat} {b c : Nat} : ∀ n, zq_ar a b c n = true ↔ ∃ i, i < n ∧ a i = b ∧ a (i + 1) = c := by
  intro n
  induction n with
  | zero => exact ⟨fun h => absurd h Bool.false_ne_true, fun ⟨i, h, _⟩ => absurd h (Nat.not_lt_zero i)⟩
  | succ n ih =>
    show (zq_ar a b c n || (a n == b && a (n + 1) == c)) = true ↔ _
    rw [Bool.or_eq_true, ih, Bool.and_eq_true, beq_iff_eq, beq_iff_eq]
    constructor
    · intro q
      rcases q with ⟨i, h1, h2⟩ | h
      · exact ⟨i, by omega, h2⟩
      · exact ⟨n, by omega, h⟩
    · intro q
      obtain ⟨i, h1, h2⟩ := q
      by_cases e : i = n
      · exact Or.inr (by rw [← e]; exact h2)
      · exact Or.inl ⟨i, by omega, h2⟩
theorem zq_at_e {p : List Nat} {i : Nat} (h : i < p.length) : zq_at p i = p[i] := by
  unfold zq_at
  rw [List.getD_eq_getElem?_getD, List.getElem?_eq_getElem h]
  rfl
theorem zq_at_lt {p : List Nat} (hp : p.Pairwise (· < ·)) {i j : Nat} (hij : i < j) (hj : j < p.length) : zq_at p i < zq_at p j := by
  rw [zq_at_e hj, zq_at_e (Nat.lt_trans hij hj)]
  exact List.pairwise_iff_getElem.mp hp i j (Nat.lt_trans hij hj) hj hij
theorem zq_at_in {p : List Nat} (hp : p.Pairwise (· < ·)) {i j : Nat} (hi : i < p.length) (hj : j < p.length) (e : zq_at p i = zq_at p j) : i = j := by
  rcases Nat.lt_trichotomy i j with z | z | z
  · have := zq_at_lt hp z hj
    omega
  · exact z
  · have := zq_at_lt hp z hi
    omega
theorem zq_at_9 {p : List Nat} (hp : ∀ c, c ∈ p → c < 9) {i : Nat} (hi : i < p.length) : zq_at p i < 9 := by
  rw [zq_at_e hi]
  exact hp _ (List.getElem_mem hi)
theorem zq_ar_un {p : List Nat} {n : Nat} (hp : p.Pairwise (· < ·)) (hn : p.length = n + 1) {b c d : Nat} (h1 : zq_ar (zq_at p) b c n = true) (h2 : zq_ar (zq_at p) b d n = true) : c = d := by
  obtain ⟨i, i1, i2, i3⟩ := (zq_ar_i n).mp h1
  obtain ⟨j, j1, j2, j3⟩ := (zq_ar_i n).mp h2
  have e := zq_at_in hp (i := i) (j := j) (by omega) (by omega) (by rw [i2, j2])
  rw [← i3, ← j3, e]
theorem zq_ar_fn {p : List Nat} {n b c : Nat} (h1 : zq_ar (zq_at p) b c n = true) : zq_fn (zq_at p) b (n + 1) = true := by
  obtain ⟨i, i1, i2, i3⟩ := (zq_ar_i n).mp h1
  exact (zq_fn_i (n + 1)).mpr ⟨i, by omega, i2⟩
theorem zq_fn_ar {f s : Nat → Nat} {h : Nat} {l : List Nat} (h9 : h < 9) (hv : zq_vd f s h l) {b : Nat} (h1 : zq_fn (zq_at (h :: l)) b (l.length + 1) = true) (h2 : zq_own f s b = 0) : ∃ c, c < 9 ∧ zq_ar (zq_at (h :: l)) b c l.length = true := by
  obtain ⟨i, i1, i2⟩ := (zq_fn_i (l.length + 1)).mp h1
  by_cases e : i = l.length
  · have q := zq_vd_last l h hv
    have q2 : zq_own f s (zq_at (h :: l) l.length) = 1 := q
    rw [e] at i2
    rw [i2] at q2
    omega
  · refine ⟨zq_at (h :: l) (i + 1), zq_at_9 (fun c hc => ?_) (by show i + 1 < l.length + 1; omega), (zq_ar_i l.length).mpr ⟨i, by omega, i2, rfl⟩⟩
    rcases List.mem_cons.mp hc with z | z
    · rw [z]
      exact h9
    · exact (zq_vd_mem l h hv c z).2
/-- how often a block, an arc was gone -/
def zq_V (pth : Nat → List Nat) (C : Nat → Nat) (P b : Nat) : Nat := zq_sm (fun k => if zq_fn (zq_at (pth k)) b (pth k).length = true then C k else 0) P
def zq_R (pth : Nat → List Nat) (C : Nat → Nat) (P b c : Nat) : Nat := zq_sm (fun k => if zq_ar (zq_at (pth k)) b c ((pth k).length - 1) = true then C k else 0) P
theorem zq_RV {f s w : Nat → Nat} {H : Nat → Bool} {pth : Nat → List Nat} (hpt : zq_pt f s w H pth) (C : Nat → Nat) (b : Nat) :
    zq_sm (zq_R pth C (zq_hs H w 9) b) 9 ≤ zq_V pth C (zq_hs H w 9) b ∧ (zq_own f s b = 0 → zq_sm (zq_R pth C (zq_hs H w 9) b) 9 = zq_V pth C (zq_hs H w 9) b) := by
  have e : zq_sm (zq_R pth C (zq_hs H w 9) b) 9 = zq_sm (fun k => zq_sm (fun c => if zq_ar (zq_at (pth k)) b c ((pth k).length - 1) = true then C k else 0) 9) (zq_hs H w 9) := zq_sm_swap (fun c k => if zq_ar (zq_at (pth k)) b c ((pth k).length - 1) = true then C k else 0) (zq_hs H w 9) 9
  have q : ∀ k, k < zq_hs H w 9 → zq_sm (fun c => if zq_ar (zq_at (pth k)) b c ((pth k).length - 1) = true then C k else 0) 9 ≤ (if zq_fn (zq_at (pth k)) b (pth k).length = true then C k else 0) ∧ (zq_own f s b = 0 → zq_sm (fun c => if zq_ar (zq_at (pth k)) b c ((pth k).length - 1) = true then C k else 0) 9 = (if zq_fn (zq_at (pth k)) b (pth k).length = true then C k else 0)) := by
    intro k hk
    obtain ⟨h, l, p1, p2, p3, p4, p5⟩ := hpt k hk
    rw [p1]
    have e1 : (h :: l).length = l.length + 1 := rfl
    have e2 : (h :: l).length - 1 = l.length := rfl
    rw [e2, e1]
    have un : ∀ c d, zq_ar (zq_at (h :: l)) b c l.length = true → zq_ar (zq_at (h :: l)) b d l.length = true → c = d := fun c d x y => zq_ar_un (zq_vd_pw l h p4) e1 x y
    by_cases g : zq_fn (zq_at (h :: l)) b (l.length + 1) = true
    · rw [if_pos g]
      refine ⟨zq_sm_un 9 un, fun o => ?_⟩
      obtain ⟨c, c1, c2⟩ := zq_fn_ar p2 p4 g o
      exact zq_sm_one 9 c c1 c2 un
    · rw [if_neg g]
      have z := zq_sm_z (g := fun c => if zq_ar (zq_at (h :: l)) b c l.length = true then C k else 0) 9 (fun c _ => if_neg (fun y => g (zq_ar_fn y)))
      exact ⟨Nat.le_of_eq z, fun _ => z⟩
  rw [e]
  exact ⟨zq_sm_le _ (fun k hk => (q k hk).1), fun o => zq_sm_eq _ (fun k hk => (q k hk).2 o)⟩
theorem zq_V_le (pth : Nat → List Nat) (C : Nat → Nat) (P b : Nat) : zq_V pth C P b ≤ zq_sm C P := by
  refine zq_sm_le P (fun k _ => ?_)
  by_cases g : zq_fn (zq_at (pth k)) b (pth k).length = true
  · rw [if_pos g]
    exact Nat.le_refl _
  · rw [if_neg g]
    exact Nat.zero_le _
theorem zq_R_le (pth : Nat → List Nat) (C : Nat → Nat) (P b c : Nat) : zq_R pth C P b c ≤ zq_sm C P := by
  refine zq_sm_le P (fun k _ => ?_)
  by_cases g : zq_ar (zq_at (pth k)) b c ((pth k).length - 1) = true
  · rw [if_pos g]
    exact Nat.le_refl _
  · rw [if_neg g]
    exact Nat.zero_le _
/-! codes of the numbers -/
def zq_co (pth : Nat → List Nat) (k : Nat) : Nat := zq_cd 0 (pth k)
theorem zq_pt_9 {f s : Nat → Nat} {h : Nat} {l : List Nat} (h9 : h < 9) (hv : zq_vd f s h l) : ∀ c, c ∈ h :: l → c < 9 := by
  intro c hc
  rcases List.mem_cons.mp hc with z | z
  · rw [z]
    exact h9
  · exact (zq_vd_mem l h hv c z).2
theorem zq_co_b {f s w : Nat → Nat} {H : Nat → Bool} {pth : Nat → List Nat} (hpt : zq_pt f s w H pth) {k : Nat} (hk : k < zq_hs H w 9) : 1 ≤ zq_co pth k ∧ zq_co pth k < 1000000000 := by
  obtain ⟨h, l, p1, p2, p3, p4, p5⟩ := hpt k hk
  unfold zq_co
  rw [p1]
  have q1 := zq_cd_ge h l
  have q2 := Nat.pow_pos (n := l.length) (show 0 < 10 by decide)
  have q3 : zq_cd 0 (h :: l) < 10 ^ (l.length + 1) := zq_cd_lt (h :: l) (zq_pt_9 p2 p4)
  have q4 := zq_vd_len l h p2 p4
  have q5 : 10 ^ (l.length + 1) ≤ 10 ^ 9 := Nat.pow_le_pow_right (by decide) (by omega)
  exact ⟨by omega, by omega⟩
theorem zq_co_i {f s w : Nat → Nat} {H : Nat → Bool} {pth : Nat → List Nat} (hpt : zq_pt f s w H pth) {k j : Nat} (hk : k < zq_hs H w 9) (hj : j < zq_hs H w 9) (e : zq_co pth k = zq_co pth j) : k = j := by
  obtain ⟨h, l, p1, p2, p3, p4, p5⟩ := hpt k hk
  obtain ⟨g, m, r1, r2, r3, r4, r5⟩ := hpt j hj
  unfold zq_co at e
  rw [p1, r1] at e
  have q := zq_cd_inj2 (zq_pt_9 p2 p4) (zq_pt_9 r2 r4) e
  injection q with q1 q2
  rw [p5, r5, q1, q2]
theorem zq_co_v {f s w : Nat → Nat} {H : Nat → Bool} {pth : Nat → List Nat} (hpt : zq_pt f s w H pth) : ∃ nf : Nat → Nat, ∀ k, k < zq_hs H w 9 → nf (zq_co pth k) = k := by
  have q : ∀ x, ∃ n, ∀ k, k < zq_hs H w 9 → zq_co pth k = x → n = k := by
    intro x
    by_cases c : ∃ k, k < zq_hs H w 9 ∧ zq_co pth k = x
    · obtain ⟨k, h1, h2⟩ := c
      exact ⟨k, fun j hj e => zq_co_i hpt h1 hj (by rw [h2, e])⟩
    · exact ⟨0, fun k hk e => absurd ⟨k, hk, e⟩ c⟩
  obtain ⟨nf, hn⟩ := Classical.axiomOfChoice q
  exact ⟨nf, fun k hk => hn _ k hk rfl⟩
end
section
/-! a block, or none, as the arrays hold it -/
def zq_dI : Nat → Int32
  | 0 => -1
  | n + 1 => nI n
theorem zq_dI_t {v : Nat} (h : v ≤ 9) : (zq_dI v).toInt = (v : Int) - 1 := by
  cases v with
  | zero => decide
  | succ n =>
    have e : zq_dI (n + 1) = nI n := rfl
    rw [e, nI_toInt (by omega)]
    omega
theorem zq_z0 : (0 : Int32).toInt = 0 := by decide
theorem zq_dI_p {v : Nat} (h : 1 ≤ v) : zq_dI v = nI (v - 1) := by
  cases v with
  | zero => omega
  | succ n => rfl
theorem zq_dI_neg {v : Nat} (h : v ≤ 9) : zq_dI v < 0 ↔ v = 0 := by
  rw [Int32.lt_iff_toInt_lt, zq_dI_t h, zq_z0]
  omega
theorem zq_dI_ge0 {v : Nat} (h : v ≤ 9) : 0 ≤ zq_dI v ↔ 1 ≤ v := by
  rw [Int32.le_iff_toInt_le, zq_dI_t h, zq_z0]
  omega
theorem zq_dI_le {v b : Nat} (h : v ≤ 9) (hb : b < 100) : zq_dI v ≤ nI b ↔ v ≤ b + 1 := by
  rw [Int32.le_iff_toInt_le, zq_dI_t h, nI_toInt (by omega)]
  omega
theorem zq_dI_gt {v b : Nat} (h : v ≤ 9) (hb : b < 100) : nI b < zq_dI v ↔ b + 1 < v := by
  rw [Int32.lt_iff_toInt_lt, zq_dI_t h, nI_toInt (by omega)]
  omega
theorem zq_dI_eq {v u : Nat} (h : v ≤ 9) (g : u ≤ 9) : zq_dI v = zq_dI u ↔ v = u := by
  rw [← Int32.toInt_inj, zq_dI_t h, zq_dI_t g]
  omega
theorem zq_dI_en {v c : Nat} (h : v ≤ 9) (g : c < 100) : nI c = zq_dI v ↔ v = c + 1 := by
  rw [← Int32.toInt_inj, zq_dI_t h, nI_toInt (by omega)]
  omega
theorem zq_m4t : (-4 : Int32).toInt = -4 := by decide
theorem zq_m4 {n : Nat} (h : n < 2 ^ 31) : ¬ nI n = -4 := by
  rw [← Int32.toInt_inj, nI_toInt h, zq_m4t]
  omega
def zq_A (f : Nat → Nat) (a : Nat → Int32) : Prop := ∀ b, b < 9 → a b = zq_dI (f b)
theorem zw_back {post : Int32 → Prop} {u : St1} {b v : Nat} (hb : b < 9) (hv : v ≤ 9) (h1 : 1 ≤ v ∧ v ≤ b + 1 → post 1) (h0 : ¬ (1 ≤ v ∧ v ≤ b + 1) → post 0) : wpX_back post u (nI b) (zq_dI v) := by
  obtain ⟨nu, pa, op, sz, a1, a2, a3, a4, a5, a6, a7⟩ := u
  unfold wpX_back
  refine br_c (fun h => h0 (fun k => ?_)) (fun h => br_c (fun g => h0 (fun k => ?_)) (fun g => h1 ?_))
  · have := (zq_dI_neg hv).mp h
    omega
  · have := (zq_dI_gt hv (by omega)).mp g
    omega
  · have q1 : ¬ v = 0 := fun z => h ((zq_dI_neg hv).mpr z)
    have q2 : ¬ b + 1 < v := fun z => g ((zq_dI_gt hv (by omega)).mpr z)
    omega
theorem zw_isEnd {post : Int32 → Prop} {nu pa op sz : Int32} {a1 a2 a3 a4 a5 a6 a7 : Nat → Int32} {f s : Nat → Nat} {b : Nat} (hb : b < 9) (hwf : zq_wf f s) (hf : zq_A f a1) (hs : zq_A s a2) (hp : post (nI (zq_own f s b))) : wpX_isEnd post (nu, pa, op, sz, a1, a2, a3, a4, a5, a6, a7) (nI b) := by
  obtain ⟨w1, w2, w3, w4⟩ := hwf b hb
  unfold wpX_isEnd
  dsimp only
  rw [nI_clamp (show b < 2 ^ 31 by omega), hf b hb, hs b hb]
  have o1 : (f b ≤ b + 1 ∨ (1 ≤ s b ∧ s b ≤ b + 1)) → post 1 := by
    intro z
    unfold zq_own at hp
    rw [if_pos z] at hp
    exact hp
  have o0 : ¬ (f b ≤ b + 1 ∨ (1 ≤ s b ∧ s b ≤ b + 1)) → post 0 := by
    intro z
    unfold zq_own at hp
    rw [if_neg z] at hp
    exact hp
  refine ⟨pk_in b 9 hb, br_c (fun h => o1 ?_) (fun h => ⟨pk_in b 9 hb, zw_back hb w1 (fun k => br_f (by decide) (o1 ?_)) (fun k => br_t rfl ⟨pk_in b 9 hb, zw_back hb w2 (fun k2 => br_f (by decide) (o1 ?_)) (fun k2 => br_t rfl (o0 ?_))⟩)⟩)⟩
  · have := (zq_dI_neg w1).mp h
    omega
  · omega
  · omega
  · have q1 : ¬ f b = 0 := fun z => h ((zq_dI_neg w1).mpr z)
    omega
theorem zq_ow {A : Int32 → Prop} {f s : Nat → Nat} {b : Nat} (h : A (nI (zq_own f s b))) : (nI (zq_own f s b) = 0 → A 0) ∧ (¬ nI (zq_own f s b) = 0 → A 1) := by
  rcases zq_own01 f s b with ⟨o, _⟩ | ⟨o, _⟩
  · rw [o] at h ⊢
    exact br_f (by decide) h
  · rw [o] at h ⊢
    exact br_t rfl h
theorem zw_waysTo {post : Int32 → Prop} {nu pa op sz : Int32} {a1 a2 a3 a4 a5 a6 a7 : Nat → Int32} {w : Nat → Nat} {b v : Nat} (hb : b < 9) (hv : v ≤ 9) (h3 : b + 1 < v → a3 (v - 1) = nI (w (v - 1))) (hp : post (nI (zq_wt w b v))) : wpX_waysTo post (nu, pa, op, sz, a1, a2, a3, a4, a5, a6, a7) (nI b) (zq_dI v) := by
  unfold wpX_waysTo
  dsimp only
  rcases zq_wt01 w b v with ⟨e1, e2⟩ | ⟨e1, e2⟩
  · rw [e2] at hp
    exact br_t ((zq_dI_le hv (by omega)).mpr e1) hp
  · rw [e2] at hp
    refine br_f (fun z => ?_) ⟨?_, ?_⟩
    · have := (zq_dI_le hv (by omega)).mp z
      omega
    · rw [zq_dI_p (show 1 ≤ v by omega)]
      exact pk_in (v - 1) 9 (by omega)
    · rw [zq_dI_p (show 1 ≤ v by omega), nI_clamp (show v - 1 < 2 ^ 31 by omega), h3 e1]
      exact hp
theorem zw_added {post : Int32 → Prop} {nu pa op sz : Int32} {a1 a2 a3 a4 a5 a6 a7 : Nat → Int32} {f s w : Nat → Nat} {b c : Nat} (hb : b < 9) (hc : c < 9) (hwf : zq_wf f s) (hf : zq_A f a1) (hs : zq_A s a2) (h3 : ∀ c, c < 9 → a3 c = nI (w c)) (hp : post (nI (zq_ad f s w b c))) : wpX_added post (nu, pa, op, sz, a1, a2, a3, a4, a5, a6, a7) (nI b) (nI c) := by
  obtain ⟨w1, w2, w3, w4⟩ := hwf b hb
  unfold wpX_added
  dsimp only
  refine zw_isEnd hb hwf hf hs (zq_ow (A := fun z => wX_added_13 post (nI b) (nI c) z nu pa op sz a1 a2 a3 a4 a5 a6 a7) ?_)
  show wX_added_13 post (nI b) (nI c) (nI (zq_own f s b)) nu pa op sz a1 a2 a3 a4 a5 a6 a7
  unfold wX_added_13
  rw [nI_clamp (show b < 2 ^ 31 by omega), hf b hb]
  unfold zq_ad at hp
  refine ⟨pk_in b 9 hb, br_c (fun h => ?_) (fun h => ⟨pk_in b 9 hb, zw_waysTo (w := w) hb w1 (fun q => h3 _ (by omega)) ?_⟩)⟩
  · rw [if_pos ((zq_dI_en w1 (by omega)).mp h)] at hp
    exact hp
  · rw [if_neg (fun z => h ((zq_dI_en w1 (by omega)).mpr z)), ← nI_add] at hp
    exact hp
end
section
/-! the numbering -/
def zq_nf (f s w : Nat → Nat) (H : Nat → Bool) (pa : Int32) (a3 a4 : Nat → Int32) : Prop :=
  zq_we f s w 0 ∧ H 0 = true ∧ (∀ b, b < 9 → 1 ≤ f b → f b ≤ b + 1 → H (f b - 1) = true) ∧ (∀ b, b < 9 → 1 ≤ s b → s b ≤ b + 1 → H (s b - 1) = true) ∧ (∀ b, b < 9 → a3 b = nI (w b)) ∧ (∀ b, b < 9 → a4 b = if H b = true then nI (zq_hs H w b) else -4) ∧ pa = nI (zq_hs H w 9)
theorem zw_n154 {post : St1 → Prop} {nu op sz : Int32} {a1 a2 a3 a4 a5 a6 a7 : Nat → Int32} {w : Nat → Nat} {H : Nat → Bool} (h3 : ∀ b, b < 9 → a3 b = nI (w b)) (h4 : ∀ b, b < 9 → a4 b = if H b = true then 0 else -4)
    (HP : ∀ a4', (∀ b, b < 9 → a4' b = if H b = true then nI (zq_hs H w b) else -4) → post (1, nI (zq_hs H w 9), op, sz, a1, a2, a3, a4', a5, a6, a7)) :
    ∃ n, wX_number_154 post nu op sz n 0 0 a1 a2 a3 a4 a5 a6 a7 := by
  refine pk_loop (fun n i s => wX_number_154 post nu op sz n (nI i) (nI (zq_hs H w i)) a1 a2 a3 s a5 a6 a7)
    (fun i s => (∀ b, b < i → s b = if H b = true then nI (zq_hs H w b) else -4) ∧ (∀ b, i ≤ b → b < 9 → s b = if H b = true then 0 else -4)) 9 0 a4 (by omega) ⟨fun b hb => absurd hb (Nat.not_lt_zero b), fun b _ hb => h4 b hb⟩ ?_ ?_
  · intro n s h
    exact pk_le 9 9 (fun _ => HP s h.1) (fun z => absurd z (by omega))
  · intro n i s hi h hw
    refine pk_le 9 i (fun z => absurd z (by omega)) (fun _ => ⟨pk_in i 9 hi, ?_⟩)
    have e := h.2 i (Nat.le_refl i) hi
    rw [nI_clamp (show i < 2 ^ 31 by omega)]
    cases g : H i with
    | false =>
      rw [g, if_neg Bool.false_ne_true] at e
      refine br_t e (nm_r (nI_1 i) ?_)
      have t := hw s ⟨fun b hb => ?_, fun b hb h9 => h.2 b (by omega) h9⟩
      · rw [zq_hs_n g] at t
        exact t
      · by_cases q : b = i
        · rw [q, e, g, if_neg Bool.false_ne_true]
        · exact h.1 b (by omega)
    | true =>
      rw [g, if_pos rfl] at e
      refine br_f (by rw [e]; decide) ⟨pk_in i 9 hi, nm_e ⟨pk_in i 9 hi, nm_r (e' := nI (zq_hs H w (i + 1))) (by rw [h3 i hi, nI_add, zq_hs_s g]) (nm_r (nI_1 i) ?_)⟩⟩
      refine hw _ ⟨fun b hb => ?_, fun b hb h9 => ?_⟩
      · by_cases q : b = i
        · rw [q, pk_us, g, if_pos rfl]
        · rw [pk_un q]
          exact h.1 b (by omega)
      · rw [pk_un (by omega)]
        exact h.2 b (by omega) h9
theorem zw_n115 {post : St1 → Prop} {J : Int32 → (Nat → Int32) → (Nat → Int32) → (Nat → Int32) → (Nat → Int32) → (Nat → Int32) → (Nat → Int32) → (Nat → Int32) → Prop} {nu pa op sz : Int32} {a1 a2 a3 a4 a5 a6 a7 : Nat → Int32} {s : Nat → Nat} {b : Nat} (hb : b < 9) (w2 : s b ≤ 9) (hs : zq_A s a2)
    (J0 : ¬ (1 ≤ s b ∧ s b ≤ b + 1) → J (nI (b + 1)) a1 a2 a3 a4 a5 a6 a7) (J1 : (1 ≤ s b ∧ s b ≤ b + 1) → J (nI (b + 1)) a1 a2 a3 (upd a4 (s b - 1) 0) a5 a6 a7) :
    wX_number_115 post J (nI b) nu pa op sz a1 a2 a3 a4 a5 a6 a7 := by
  unfold wX_number_115
  rw [nI_clamp (show b < 2 ^ 31 by omega), hs b hb]
  refine ⟨pk_in b 9 hb, zw_back hb w2 (fun k => br_f (by decide) ⟨pk_in b 9 hb, ?_⟩) (fun k => br_t rfl (nm_r (nI_1 b) (J0 k)))⟩
  rw [zq_dI_p k.1, nI_clamp (show s b - 1 < 2 ^ 31 by omega)]
  exact ⟨pk_in (s b - 1) 9 (by omega), nm_e (nm_r (nI_1 b) (J1 k))⟩
theorem zq_set {H : Nat → Bool} {a4 : Nat → Int32} (c : Nat) (h : ∀ b, b < 9 → a4 b = if H b = true then 0 else -4) : ∀ b, b < 9 → upd a4 c 0 b = if (H b || b == c) = true then 0 else -4 := by
  intro b hb
  by_cases e : b = c
  · rw [e, pk_us, if_pos (by rw [beq_self_eq_true, Bool.or_true])]
  · have e2 : (b == c) = false := beq_false_of_ne e
    rw [pk_un e, e2, Bool.or_false]
    exact h b hb
theorem zq_orl {x y : Bool} (h : x = true) : (x || y) = true := by rw [h, Bool.true_or]
theorem zw_n83 {post : St1 → Prop} {nu pa op sz : Int32} {a1 a2 a3 a4 a5 a6 a7 : Nat → Int32} {f s w : Nat → Nat} (hwf : zq_wf f s) (hf : zq_A f a1) (hs : zq_A s a2) (h3 : ∀ b, b < 9 → a3 b = nI (w b)) (h4 : ∀ b, b < 9 → a4 b = if (b == 0) = true then 0 else -4)
    (HP : ∀ (H : Nat → Bool) (a4' : Nat → Int32), H 0 = true → (∀ b, b < 9 → 1 ≤ f b → f b ≤ b + 1 → H (f b - 1) = true) → (∀ b, b < 9 → 1 ≤ s b → s b ≤ b + 1 → H (s b - 1) = true) → (∀ b, b < 9 → a4' b = if H b = true then nI (zq_hs H w b) else -4) → post (1, nI (zq_hs H w 9), op, sz, a1, a2, a3, a4', a5, a6, a7)) :
    ∃ n, wX_number_83 post nu pa op sz n 0 a1 a2 a3 a4 a5 a6 a7 := by
  refine pk_loop (fun n i x => wX_number_83 post nu pa op sz n (nI i) a1 a2 a3 x a5 a6 a7)
    (fun i x => ∃ H : Nat → Bool, H 0 = true ∧ (∀ b, b < 9 → x b = if H b = true then 0 else -4) ∧ (∀ b, b < i → 1 ≤ f b → f b ≤ b + 1 → H (f b - 1) = true) ∧ (∀ b, b < i → 1 ≤ s b → s b ≤ b + 1 → H (s b - 1) = true)) 9 0 a4 (by omega)
    ⟨fun b => b == 0, rfl, h4, fun b hb => absurd hb (Nat.not_lt_zero b), fun b hb => absurd hb (Nat.not_lt_zero b)⟩ ?_ ?_
  · intro n x h
    obtain ⟨H, g1, g2, g3, g4⟩ := h
    exact pk_le 9 9 (fun _ => zw_n154 h3 g2 (fun a4' h => HP H a4' g1 g3 g4 h)) (fun z => absurd z (by omega))
  · intro n i x hi h hw
    obtain ⟨H, g1, g2, g3, g4⟩ := h
    obtain ⟨w1, w2, w3, w4⟩ := hwf i hi
    have st : ∀ (x : Nat → Int32) (H : Nat → Bool), H 0 = true → (∀ b, b < 9 → x b = if H b = true then 0 else -4) → (∀ b, b < i + 1 → 1 ≤ f b → f b ≤ b + 1 → H (f b - 1) = true) → (∀ b, b < i → 1 ≤ s b → s b ≤ b + 1 → H (s b - 1) = true) → wX_number_115 post (wX_number_83 post nu pa op sz n) (nI i) nu pa op sz a1 a2 a3 x a5 a6 a7 := by
      intro x H g1 g2 g3 g4
      refine zw_n115 hi w2 hs (fun k => hw x ⟨H, g1, g2, g3, fun b hb q1 q2 => ?_⟩) (fun k => hw _ ⟨fun b => H b || b == s i - 1, zq_orl g1, zq_set (s i - 1) g2, fun b hb q1 q2 => zq_orl (g3 b hb q1 q2), fun b hb q1 q2 => ?_⟩)
      · by_cases e : b = i
        · rw [e] at q1 q2
          exact absurd ⟨q1, q2⟩ k
        · exact g4 b (by omega) q1 q2
      · by_cases e : b = i
        · show (H (s b - 1) || s b - 1 == s i - 1) = true
          rw [e, beq_self_eq_true, Bool.or_true]
        · exact zq_orl (g4 b (by omega) q1 q2)
    refine pk_le 9 i (fun z => absurd z (by omega)) (fun _ => ⟨pk_in i 9 hi, ?_⟩)
    rw [nI_clamp (show i < 2 ^ 31 by omega), hf i hi]
    refine zw_back hi w1 (fun k => br_f (by decide) ⟨pk_in i 9 hi, ?_⟩) (fun k => br_t rfl (st x H g1 g2 (fun b hb q1 q2 => ?_) g4))
    · rw [zq_dI_p k.1, nI_clamp (show f i - 1 < 2 ^ 31 by omega)]
      refine ⟨pk_in (f i - 1) 9 (by omega), nm_e (st _ (fun b => H b || b == f i - 1) (zq_orl g1) (zq_set (f i - 1) g2) (fun b hb q1 q2 => ?_) (fun b hb q1 q2 => zq_orl (g4 b hb q1 q2)))⟩
      by_cases e : b = i
      · show (H (f b - 1) || f b - 1 == f i - 1) = true
        rw [e, beq_self_eq_true, Bool.or_true]
      · exact zq_orl (g3 b (by omega) q1 q2)
    · by_cases e : b = i
      · rw [e] at q1 q2
        exact absurd ⟨q1, q2⟩ k
      · exact g3 b (by omega) q1 q2
theorem zq_dI_m1 (i : Nat) : nI i + (-1) = zq_dI i := by
  cases i with
  | zero => decide
  | succ n => exact pk_m1 n
theorem zw_n28 {post : St1 → Prop} {J : Int32 → (Nat → Int32) → (Nat → Int32) → (Nat → Int32) → (Nat → Int32) → (Nat → Int32) → (Nat → Int32) → (Nat → Int32) → Prop} {nu pa op sz : Int32} {a1 a2 a3 a4 a5 a6 a7 : Nat → Int32} {f s w : Nat → Nat} {b o : Nat} (hb : b < 9) (hwf : zq_wf f s) (hf : zq_A f a1) (hs : zq_A s a2) (h3 : ∀ c, b < c → c < 9 → a3 c = nI (w c))
    (hJ : J (zq_dI b) a1 a2 (upd a3 b (nI (o + zq_wt w b (f b) + zq_wt w b (s b)))) (upd a4 b (-4)) a5 a6 a7) :
    wX_number_28 post J (nI b) (nI o) nu pa op sz a1 a2 a3 a4 a5 a6 a7 := by
  obtain ⟨w1, w2, w3, w4⟩ := hwf b hb
  unfold wX_number_28
  rw [nI_clamp (show b < 2 ^ 31 by omega), hf b hb, hs b hb]
  exact ⟨pk_in b 9 hb, zw_waysTo (w := w) hb w1 (fun q => h3 _ (by omega) (by omega)) ⟨pk_in b 9 hb, zw_waysTo (w := w) hb w2 (fun q => h3 _ (by omega) (by omega)) ⟨pk_in b 9 hb, nm_r (by rw [nI_add, nI_add]) ⟨pk_in b 9 hb, nm_e (nm_r (zq_dI_m1 b) hJ)⟩⟩⟩⟩
theorem zq_wt_up {w : Nat → Nat} {i b d x : Nat} (h : i ≤ b) : zq_wt (fun j => if j = i then x else w j) b d = zq_wt w b d := by
  unfold zq_wt
  by_cases q : b + 1 < d
  · rw [if_pos q, if_pos q]
    exact if_neg (by omega)
  · rw [if_neg q, if_neg q]
theorem zq_we_up {f s w : Nat → Nat} {i : Nat} (h : zq_we f s w (i + 1)) : zq_we f s (fun j => if j = i then zq_own f s i + zq_wt w i (f i) + zq_wt w i (s i) else w j) i := by
  intro b h1 h2
  rw [zq_wt_up h1, zq_wt_up h1]
  dsimp only
  by_cases e : b = i
  · rw [if_pos e, e]
  · rw [if_neg e]
    exact h b (by omega) h2
theorem zw_number {post : St1 → Prop} {nu pa op sz : Int32} {a1 a2 a3 a4 a5 a6 a7 : Nat → Int32} {f s : Nat → Nat} (hwf : zq_wf f s) (hf : zq_A f a1) (hs : zq_A s a2) (hn : nu = 0 ∨ (nu = 1 ∧ ∃ w H, zq_nf f s w H pa a3 a4))
    (HP : ∀ w H pa' a3' a4', zq_nf f s w H pa' a3' a4' → post (1, pa', op, sz, a1, a2, a3', a4', a5, a6, a7)) :
    wpX_number post (nu, pa, op, sz, a1, a2, a3, a4, a5, a6, a7) := by
  unfold wpX_number
  dsimp only
  rcases hn with rfl | ⟨rfl, w, H, hn⟩
  · refine br_t rfl ⟨10, ?_⟩
    refine pk_loopD (fun n i (x : (Nat → Int32) × (Nat → Int32)) => wX_number_11 post 0 pa op sz n (zq_dI i) a1 a2 x.1 x.2 a5 a6 a7)
      (fun i x => i ≤ 9 ∧ ∃ w, zq_we f s w i ∧ ∀ b, i ≤ b → b < 9 → x.1 b = nI (w b) ∧ x.2 b = -4) ?_ ?_ 9 (a3, a4) ⟨Nat.le_refl 9, fun _ => 0, fun b h1 h2 => by omega, fun b h1 h2 => by omega⟩
    · intro n x h
      obtain ⟨_, w, hw, hx⟩ := h
      refine br_t (by decide) (nm_e (zw_n83 (w := w) hwf hf hs (fun b hb => (hx b (Nat.zero_le b) hb).1) (fun b hb => ?_) (fun H a4' g1 g2 g3 g4 => HP w H _ _ _ ⟨hw, g1, g2, g3, fun b hb => (hx b (Nat.zero_le b) hb).1, g4, rfl⟩)))
      by_cases e : b = 0
      · rw [e, pk_us]
        rfl
      · rw [pk_un e, (hx b (Nat.zero_le b) hb).2, if_neg (by rw [beq_iff_eq]; exact e)]
    · intro n i x h hw
      obtain ⟨h9, w, we, hx⟩ := h
      have hi : i < 9 := by omega
      refine br_f (nI_pos (show i < 2 ^ 31 by omega)) (zw_isEnd hi hwf hf hs (zq_ow (A := fun z => wX_number_28 post (wX_number_11 post 0 pa op sz n) (nI i) z 0 pa op sz a1 a2 x.1 x.2 a5 a6 a7) ?_))
      refine zw_n28 (w := w) hi hwf hf hs (fun c h1 h2 => (hx c (by omega) h2).1) (hw (_, _) ⟨by omega, _, zq_we_up we, fun b h1 h2 => ?_⟩)
      by_cases e : b = i
      · rw [if_pos e, e]
        exact ⟨pk_us, pk_us⟩
      · rw [if_neg e]
        have q := hx b (by omega) h2
        exact ⟨(pk_un e).trans q.1, (pk_un e).trans q.2⟩
  · exact br_f (by decide) (HP w H _ _ _ hn)
end
section
/-! the numbered state -/
def zq_N (f s w : Nat → Nat) (H : Nat → Bool) (pa : Int32) (a1 a2 a3 a4 : Nat → Int32) : Prop := zq_wf f s ∧ zq_A f a1 ∧ zq_A s a2 ∧ zq_nf f s w H pa a3 a4
/-! a path made out of its number () -/
theorem zw_s160 {post : St1 → Prop} {J : Int32 → Int32 → Int32 → Int32 → Int32 → (Nat → Int32) → (Nat → Int32) → (Nat → Int32) → (Nat → Int32) → (Nat → Int32) → (Nat → Int32) → (Nat → Int32) → Prop} {nu pa op : Int32} {a1 a2 a3 a4 a5 a6 a7 : Nat → Int32} {x2 x3 x4 : Int32} {i : Nat} (hi : i + 1 < 9)
    (hJ : J x2 x3 x4 (nI (i + 1)) (nI (i + 1 + 1)) a1 a2 a3 a4 a5 (upd a6 (i + 1) x2) a7) :
    wX_spread_160 post J x2 x3 x4 (nI i) nu pa op (nI (i + 1)) a1 a2 a3 a4 a5 a6 a7 := by
  unfold wX_spread_160
  rw [nI_clamp (show i + 1 < 2 ^ 31 by omega)]
  exact ⟨pk_in (i + 1) 9 hi, nm_e (nm_r (nI_1 (i + 1)) (nm_r (nI_1 i) hJ))⟩
theorem zw_s75 {post : St1 → Prop} {nu pa op : Int32} {a1 a2 a3 a4 a5 a7 : Nat → Int32} {f s w : Nat → Nat} (hwf : zq_wf f s) (hf : zq_A f a1) (hs : zq_A s a2) (hwe : zq_we f s w 0) (h3 : ∀ b, b < 9 → a3 b = nI (w b)) :
    ∀ (l : List Nat) (b i : Nat) (a6 : Nat → Int32), b < 9 → zq_vd f s b l → i ≤ b →
      (∀ a6', (∀ j, j < i + 1 → a6' j = a6 j) → (∀ j, j < l.length → a6' (i + 1 + j) = nI (l.getD j 0)) → post (nu, pa, op, nI (i + 1 + l.length), a1, a2, a3, a4, a5, a6', a7)) →
      wX_spread_75 post nu pa op (l.length + 2) (nI b) (nI (zq_nm f s w b l)) 1 (nI i) (nI (i + 1)) a1 a2 a3 a4 a5 a6 a7 := by
  intro l
  induction l with
  | nil =>
    intro b i a6 hb hv hi HP
    have hv1 : zq_own f s b = 1 := hv
    have hp := HP a6 (fun j _ => rfl) (fun j hj => absurd hj (Nat.not_lt_zero j))
    refine pk_le 9 i (fun z => absurd z (by omega)) (fun _ => br_f (by decide) (zw_isEnd hb hwf hf hs (zq_ow (A := fun z => wX_spread_100 post (wX_spread_75 post nu pa op 1) (nI b) (nI 0) 1 (nI i) z nu pa op (nI (i + 1)) a1 a2 a3 a4 a5 a6 a7) ?_)))
    show wX_spread_100 post (wX_spread_75 post nu pa op 1) (nI b) (nI 0) 1 (nI i) (nI (zq_own f s b)) nu pa op (nI (i + 1)) a1 a2 a3 a4 a5 a6 a7
    rw [hv1]
    unfold wX_spread_100
    exact pk_le 1 0 (fun z => absurd z (by omega)) (fun _ => nm_e (br_c (fun _ => hp) (fun _ => br_t rfl hp)))
  | cons c l ih =>
    intro b i a6 hb hv hi HP
    obtain ⟨v1, v2, v3, v4⟩ := hv
    obtain ⟨w1, w2, w3, w4⟩ := hwf b hb
    have hl := zq_vd_len l c v2 v4
    have hn := zq_nm_lt hwf hwe l c v2 v4
    have hle := zq_ad_le hb hwe v1 v3
    have hB := zq_bnd hwf hwe b (Nat.zero_le b) hb
    have hX := zq_fbx b hb
    have en : zq_nm f s w b (c :: l) = zq_ad f s w b c + zq_nm f s w c l := rfl
    have el : (c :: l).length = l.length + 1 := rfl
    have ow : zq_own f s b ≤ zq_ad f s w b c := by
      unfold zq_ad
      by_cases q : f b = c + 1
      · rw [if_pos q]
        exact Nat.le_refl _
      · rw [if_neg q]
        exact Nat.le_add_right _ _
    have hJ : wX_spread_75 post nu pa op (l.length + 2) (nI c) (nI (zq_nm f s w c l)) 1 (nI (i + 1)) (nI (i + 1 + 1)) a1 a2 a3 a4 a5 (upd a6 (i + 1) (nI c)) a7 := by
      refine ih c (i + 1) (upd a6 (i + 1) (nI c)) v2 v4 (by omega) (fun a6' q1 q2 => ?_)
      have e : i + 1 + 1 + l.length = i + 1 + (c :: l).length := by rw [el]; omega
      rw [e]
      refine HP a6' (fun j hj => ?_) (fun j hj => ?_)
      · rw [q1 j (by omega), pk_un (by omega)]
      · cases j with
        | zero =>
          rw [Nat.add_zero, q1 (i + 1) (by omega), pk_us]
          rfl
        | succ j =>
          have q := q2 j (by rw [el] at hj; omega)
          rw [show i + 1 + (j + 1) = i + 1 + 1 + j by omega, q]
          rfl
    rw [el]
    refine pk_le 9 i (fun z => absurd z (by omega)) (fun _ => br_f (by decide) (zw_isEnd hb hwf hf hs (zq_ow (A := fun z => wX_spread_100 post (wX_spread_75 post nu pa op (l.length + 2)) (nI b) (nI (zq_nm f s w b (c :: l))) 1 (nI i) z nu pa op (nI (i + 1)) a1 a2 a3 a4 a5 a6 a7) ?_)))
    show wX_spread_100 post (wX_spread_75 post nu pa op (l.length + 2)) (nI b) (nI (zq_nm f s w b (c :: l))) 1 (nI i) (nI (zq_own f s b)) nu pa op (nI (i + 1)) a1 a2 a3 a4 a5 a6 a7
    rw [en]
    unfold wX_spread_100
    rw [nI_clamp (show b < 2 ^ 31 by omega), hf b hb, hs b hb]
    refine pk_le (zq_own f s b) (zq_ad f s w b c + zq_nm f s w c l) (fun _ => nm_r (pk_sub (by omega)) ⟨pk_in b 9 hb, zw_waysTo (w := w) hb w1 (fun q => h3 _ (by omega)) ?_⟩) (fun z => absurd z (by omega))
    by_cases q : f b = c + 1
    · have e1 : zq_ad f s w b c = zq_own f s b := if_pos q
      have e2 : zq_wt w b (f b) = w c := by
        unfold zq_wt
        rw [if_pos (by omega), q]
        rfl
      have e3 : zq_ad f s w b c + zq_nm f s w c l - zq_own f s b = zq_nm f s w c l := by omega
      rw [e3, e2]
      refine pk_le (w c) (zq_nm f s w c l) (fun z => absurd z (by omega)) (fun _ => ⟨pk_in b 9 hb, nm_r (e' := nI c) (by rw [q]; rfl) (zw_s160 (by omega) hJ)⟩)
    · have e1 : zq_ad f s w b c = zq_own f s b + zq_wt w b (f b) := if_neg q
      have e4 : s b = c + 1 := by omega
      have e3 : zq_ad f s w b c + zq_nm f s w c l - zq_own f s b = zq_wt w b (f b) + zq_nm f s w c l := by omega
      rw [e3]
      refine pk_le (zq_wt w b (f b)) (zq_wt w b (f b) + zq_nm f s w c l) (fun _ => nm_r (e' := nI (zq_nm f s w c l)) (by rw [pk_sub (by omega), Nat.add_sub_cancel_left]) ⟨pk_in b 9 hb, nm_r (e' := nI c) (by rw [e4]; rfl) (zw_s160 (by omega) hJ)⟩) (fun z => absurd z (by omega))
theorem zw_spread {post : St1 → Prop} {nu pa op sz : Int32} {a1 a2 a3 a4 a5 a6 a7 : Nat → Int32} {f s w : Nat → Nat} {H : Nat → Bool} {pth : Nat → List Nat} {k : Nat} (hN : zq_N f s w H pa a1 a2 a3 a4) (hpt : zq_pt f s w H pth) (hk : k < zq_hs H w 9)
    (HP : ∀ a6', (∀ j, j < (pth k).length → a6' j = nI (zq_at (pth k) j)) → post (nu, pa, op, nI (pth k).length, a1, a2, a3, a4, a5, a6', a7)) :
    wpX_spread post (nu, pa, op, sz, a1, a2, a3, a4, a5, a6, a7) (nI k) := by
  obtain ⟨hwf, hf, hs, hwe, n1, n2, n3, h3, h4, hpa⟩ := hN
  obtain ⟨h, l, p1, p2, p3, p4, p5⟩ := hpt k hk
  have B := zq_bnd hwf hwe
  have B9 : zq_hs H w 9 ≤ 142 := zq_hs9 (fun b hb => (B b (Nat.zero_le b) hb).2)
  have hnl := zq_nm_lt hwf hwe l h p2 p4
  rw [p1] at HP
  unfold wpX_spread
  dsimp only
  refine pk_loop (fun n i (x : Nat) => wX_spread_4 post (nI k) nu pa op sz a1 a2 a3 a4 a5 a6 a7 n (nI x) (nI i))
    (fun i x => x < 9 ∧ H x = true ∧ zq_hs H w x ≤ k ∧ (0 < i → x < i ∧ (k < zq_hs H w i → k < zq_hs H w (x + 1)))) 9 0 0 (by omega) ⟨by omega, n1, Nat.zero_le k, fun z => absurd z (by omega)⟩ ?_ ?_
  · intro n x q
    obtain ⟨q1, q2, q3, q4⟩ := q
    have q5 := (q4 (by omega)).2 hk
    rw [zq_hs_s q2] at q5
    have e : x = h := zq_hdu q2 q3 q5 p3 (by omega) (by omega)
    subst e
    refine pk_le 9 9 (fun _ => ⟨pk_in x 9 q1, ?_⟩) (fun z => absurd z (by omega))
    rw [nI_clamp (show x < 2 ^ 31 by omega), h4 x q1, if_pos q2]
    refine nm_r (e' := nI (zq_nm f s w x l)) (by rw [pk_sub q3, p5, Nat.add_sub_cancel_left]) (nm_e ⟨l.length + 2, ?_⟩)
    refine zw_s75 hwf hf hs hwe h3 l x 0 (upd a6 0 (nI x)) q1 p4 (Nat.zero_le x) (fun a6' r1 r2 => ?_)
    have e1 : (x :: l).length = 0 + 1 + l.length := by
      show l.length + 1 = _
      omega
    rw [← e1]
    refine HP a6' (fun j hj => ?_)
    cases j with
    | zero =>
      rw [r1 0 (by omega), pk_us]
      rfl
    | succ j =>
      have r := r2 j (by rw [e1] at hj; omega)
      rw [show 0 + 1 + j = j + 1 by omega] at r
      rw [r]
      rfl
  · intro n i x hi q hw
    obtain ⟨q1, q2, q3, q4⟩ := q
    refine pk_le 9 i (fun z => absurd z (by omega)) (fun _ => ⟨pk_in i 9 hi, ?_⟩)
    have Bi := B i (Nat.zero_le i) hi
    have hXi := zq_fbx i hi
    have hm : zq_hs H w i ≤ zq_hs H w 9 := zq_hs_m (by omega)
    rw [nI_clamp (show i < 2 ^ 31 by omega), h4 i hi, h3 i hi]
    cases g : H i with
    | false =>
      rw [if_neg Bool.false_ne_true]
      refine br_t rfl (nm_r (nI_1 i) (hw x ⟨q1, q2, q3, fun _ => ?_⟩))
      rw [zq_hs_n g]
      by_cases z : i = 0
      · exact absurd (show H i = true by rw [z]; exact n1) (by rw [g]; exact Bool.false_ne_true)
      · exact ⟨by have := (q4 (by omega)).1; omega, (q4 (by omega)).2⟩
    | true =>
      rw [if_pos rfl]
      refine br_f (zq_m4 (by omega)) ⟨pk_in i 9 hi, br_f (nI_nle (by omega) (by omega)) ⟨pk_in i 9 hi, ?_⟩⟩
      refine pk_lt k (zq_hs H w i) (fun z => nm_r (nI_1 i) (hw x ⟨q1, q2, q3, fun _ => ?_⟩)) (fun z => nm_r (nI_1 i) (hw i ⟨hi, g, z, fun _ => ⟨by omega, fun y => y⟩⟩))
      have z0 : 0 < i := by
        rcases Nat.eq_zero_or_pos i with y | y
        · rw [y] at z
          exact absurd z (Nat.not_lt_zero k)
        · exact y
      exact ⟨by have := (q4 z0).1; omega, fun _ => (q4 z0).2 z⟩
theorem zw_co9 {post : Int32 → St1 → Prop} {nu pa op : Int32} {a1 a2 a3 a4 a5 a6 a7 : Nat → Int32} {n : Nat} (hn : n < 100) :
    ∀ (l : List Nat) (ac i : Nat), i + l.length = n → (∀ c, c < l.length → a6 (i + c) = nI (l.getD c 0)) → post (nI (zq_cd ac l)) (nu, pa, op, nI n, a1, a2, a3, a4, a5, a6, a7) →
      n ≤ 9 → wX_codeOf_9 post nu pa op (nI n) a1 a2 a3 a4 a5 a6 a7 (l.length + 1) (nI ac) (nI i) := by
  intro l
  induction l with
  | nil =>
    intro ac i h1 h2 hp h9
    have e : i = n := h1
    exact pk_le n i (fun _ => hp) (fun z => absurd z (by omega))
  | cons c l ih =>
    intro ac i h1 h2 hp h9
    have el : (c :: l).length = l.length + 1 := rfl
    rw [el] at h1
    refine pk_le n i (fun z => absurd z (by omega)) (fun _ => ⟨pk_in i 9 (by omega), nm_r (e' := nI (ac * 10 + c + 1)) ?_ (nm_r (nI_1 i) ?_)⟩)
    · have q : a6 i = nI c := h2 0 (by rw [el]; omega)
      rw [nI_clamp (show i < 2 ^ 31 by omega), q, show (10 : Int32) = nI 10 from rfl, pk_mul, nI_add, nI_1]
    · refine ih (ac * 10 + c + 1) (i + 1) (by omega) (fun d hd => ?_) hp h9
      have q : a6 (i + (d + 1)) = nI (l.getD d 0) := h2 (d + 1) (by rw [el]; omega)
      rw [show i + 1 + d = i + (d + 1) by omega, q]
theorem zw_codeOf {post : Int32 → St1 → Prop} {nu pa op sz : Int32} {a1 a2 a3 a4 a5 a6 a7 : Nat → Int32} {f s w : Nat → Nat} {H : Nat → Bool} {pth : Nat → List Nat} {k : Nat} (hN : zq_N f s w H pa a1 a2 a3 a4) (hpt : zq_pt f s w H pth) (hk : k < zq_hs H w 9)
    (HP : ∀ z a6', post (nI (zq_co pth k)) (nu, pa, op, z, a1, a2, a3, a4, a5, a6', a7)) :
    wpX_codeOf post (nu, pa, op, sz, a1, a2, a3, a4, a5, a6, a7) (nI k) := by
  unfold wpX_codeOf
  dsimp only
  refine zw_spread hN hpt hk (fun a6' q => ⟨(pth k).length + 1, ?_⟩)
  obtain ⟨h, l, p1, p2, p3, p4, p5⟩ := hpt k hk
  have q4 := zq_vd_len l h p2 p4
  have e : (pth k).length ≤ 9 := by
    rw [p1]
    show l.length + 1 ≤ 9
    omega
  refine zw_co9 (by omega) (pth k) 0 0 (by omega) (fun c hc => ?_) (HP _ _) e
  rw [Nat.zero_add]
  exact q c hc
end
section
/-! a path made out of its number (_2) -/
theorem zw_s160_2 {post : St1 → Prop} {J : Int32 → Int32 → Int32 → Int32 → Int32 → (Nat → Int32) → (Nat → Int32) → (Nat → Int32) → (Nat → Int32) → (Nat → Int32) → (Nat → Int32) → (Nat → Int32) → Prop} {nu pa op : Int32} {a1 a2 a3 a4 a5 a6 a7 : Nat → Int32} {x2 x3 x4 : Int32} {i : Nat} (hi : i + 1 < 9)
    (hJ : J x2 x3 x4 (nI (i + 1)) (nI (i + 1 + 1)) a1 a2 a3 a4 a5 (upd a6 (i + 1) x2) a7) :
    wX_spread_2_160 post J x2 x3 x4 (nI i) nu pa op (nI (i + 1)) a1 a2 a3 a4 a5 a6 a7 := by
  unfold wX_spread_2_160
  rw [nI_clamp (show i + 1 < 2 ^ 31 by omega)]
  exact ⟨pk_in (i + 1) 9 hi, nm_e (nm_r (nI_1 (i + 1)) (nm_r (nI_1 i) hJ))⟩
theorem zw_s75_2 {post : St1 → Prop} {nu pa op : Int32} {a1 a2 a3 a4 a5 a7 : Nat → Int32} {f s w : Nat → Nat} (hwf : zq_wf f s) (hf : zq_A f a1) (hs : zq_A s a2) (hwe : zq_we f s w 0) (h3 : ∀ b, b < 9 → a3 b = nI (w b)) :
    ∀ (l : List Nat) (b i : Nat) (a6 : Nat → Int32), b < 9 → zq_vd f s b l → i ≤ b →
      (∀ a6', (∀ j, j < i + 1 → a6' j = a6 j) → (∀ j, j < l.length → a6' (i + 1 + j) = nI (l.getD j 0)) → post (nu, pa, op, nI (i + 1 + l.length), a1, a2, a3, a4, a5, a6', a7)) →
      wX_spread_2_75 post nu pa op (l.length + 2) (nI b) (nI (zq_nm f s w b l)) 1 (nI i) (nI (i + 1)) a1 a2 a3 a4 a5 a6 a7 := by
  intro l
  induction l with
  | nil =>
    intro b i a6 hb hv hi HP
    have hv1 : zq_own f s b = 1 := hv
    have hp := HP a6 (fun j _ => rfl) (fun j hj => absurd hj (Nat.not_lt_zero j))
    refine pk_le 9 i (fun z => absurd z (by omega)) (fun _ => br_f (by decide) (zw_isEnd hb hwf hf hs (zq_ow (A := fun z => wX_spread_2_100 post (wX_spread_2_75 post nu pa op 1) (nI b) (nI 0) 1 (nI i) z nu pa op (nI (i + 1)) a1 a2 a3 a4 a5 a6 a7) ?_)))
    show wX_spread_2_100 post (wX_spread_2_75 post nu pa op 1) (nI b) (nI 0) 1 (nI i) (nI (zq_own f s b)) nu pa op (nI (i + 1)) a1 a2 a3 a4 a5 a6 a7
    rw [hv1]
    unfold wX_spread_2_100
    exact pk_le 1 0 (fun z => absurd z (by omega)) (fun _ => nm_e (br_c (fun _ => hp) (fun _ => br_t rfl hp)))
  | cons c l ih =>
    intro b i a6 hb hv hi HP
    obtain ⟨v1, v2, v3, v4⟩ := hv
    obtain ⟨w1, w2, w3, w4⟩ := hwf b hb
    have hl := zq_vd_len l c v2 v4
    have hn := zq_nm_lt hwf hwe l c v2 v4
    have hle := zq_ad_le hb hwe v1 v3
    have hB := zq_bnd hwf hwe b (Nat.zero_le b) hb
    have hX := zq_fbx b hb
    have en : zq_nm f s w b (c :: l) = zq_ad f s w b c + zq_nm f s w c l := rfl
    have el : (c :: l).length = l.length + 1 := rfl
    have ow : zq_own f s b ≤ zq_ad f s w b c := by
      unfold zq_ad
      by_cases q : f b = c + 1
      · rw [if_pos q]
        exact Nat.le_refl _
      · rw [if_neg q]
        exact Nat.le_add_right _ _
    have hJ : wX_spread_2_75 post nu pa op (l.length + 2) (nI c) (nI (zq_nm f s w c l)) 1 (nI (i + 1)) (nI (i + 1 + 1)) a1 a2 a3 a4 a5 (upd a6 (i + 1) (nI c)) a7 := by
      refine ih c (i + 1) (upd a6 (i + 1) (nI c)) v2 v4 (by omega) (fun a6' q1 q2 => ?_)
      have e : i + 1 + 1 + l.length = i + 1 + (c :: l).length := by rw [el]; omega
      rw [e]
      refine HP a6' (fun j hj => ?_) (fun j hj => ?_)
      · rw [q1 j (by omega), pk_un (by omega)]
      · cases j with
        | zero =>
          rw [Nat.add_zero, q1 (i + 1) (by omega), pk_us]
          rfl
        | succ j =>
          have q := q2 j (by rw [el] at hj; omega)
          rw [show i + 1 + (j + 1) = i + 1 + 1 + j by omega, q]
          rfl
    rw [el]
    refine pk_le 9 i (fun z => absurd z (by omega)) (fun _ => br_f (by decide) (zw_isEnd hb hwf hf hs (zq_ow (A := fun z => wX_spread_2_100 post (wX_spread_2_75 post nu pa op (l.length + 2)) (nI b) (nI (zq_nm f s w b (c :: l))) 1 (nI i) z nu pa op (nI (i + 1)) a1 a2 a3 a4 a5 a6 a7) ?_)))
    show wX_spread_2_100 post (wX_spread_2_75 post nu pa op (l.length + 2)) (nI b) (nI (zq_nm f s w b (c :: l))) 1 (nI i) (nI (zq_own f s b)) nu pa op (nI (i + 1)) a1 a2 a3 a4 a5 a6 a7
    rw [en]
    unfold wX_spread_2_100
    rw [nI_clamp (show b < 2 ^ 31 by omega), hf b hb, hs b hb]
    refine pk_le (zq_own f s b) (zq_ad f s w b c + zq_nm f s w c l) (fun _ => nm_r (pk_sub (by omega)) ⟨pk_in b 9 hb, zw_waysTo (w := w) hb w1 (fun q => h3 _ (by omega)) ?_⟩) (fun z => absurd z (by omega))
    by_cases q : f b = c + 1
    · have e1 : zq_ad f s w b c = zq_own f s b := if_pos q
      have e2 : zq_wt w b (f b) = w c := by
        unfold zq_wt
        rw [if_pos (by omega), q]
        rfl
      have e3 : zq_ad f s w b c + zq_nm f s w c l - zq_own f s b = zq_nm f s w c l := by omega
      rw [e3, e2]
      refine pk_le (w c) (zq_nm f s w c l) (fun z => absurd z (by omega)) (fun _ => ⟨pk_in b 9 hb, nm_r (e' := nI c) (by rw [q]; rfl) (zw_s160_2 (by omega) hJ)⟩)
    · have e1 : zq_ad f s w b c = zq_own f s b + zq_wt w b (f b) := if_neg q
      have e4 : s b = c + 1 := by omega
      have e3 : zq_ad f s w b c + zq_nm f s w c l - zq_own f s b = zq_wt w b (f b) + zq_nm f s w c l := by omega
      rw [e3]
      refine pk_le (zq_wt w b (f b)) (zq_wt w b (f b) + zq_nm f s w c l) (fun _ => nm_r (e' := nI (zq_nm f s w c l)) (by rw [pk_sub (by omega), Nat.add_sub_cancel_left]) ⟨pk_in b 9 hb, nm_r (e' := nI c) (by rw [e4]; rfl) (zw_s160_2 (by omega) hJ)⟩) (fun z => absurd z (by omega))
theorem zw_spread_2 {post : St1 → Prop} {nu pa op sz : Int32} {a1 a2 a3 a4 a5 a6 a7 : Nat → Int32} {f s w : Nat → Nat} {H : Nat → Bool} {pth : Nat → List Nat} {k : Nat} (hN : zq_N f s w H pa a1 a2 a3 a4) (hpt : zq_pt f s w H pth) (hk : k < zq_hs H w 9)
    (HP : ∀ a6', (∀ j, j < (pth k).length → a6' j = nI (zq_at (pth k) j)) → post (nu, pa, op, nI (pth k).length, a1, a2, a3, a4, a5, a6', a7)) :
    wpX_spread_2 post (nu, pa, op, sz, a1, a2, a3, a4, a5, a6, a7) (nI k) := by
  obtain ⟨hwf, hf, hs, hwe, n1, n2, n3, h3, h4, hpa⟩ := hN
  obtain ⟨h, l, p1, p2, p3, p4, p5⟩ := hpt k hk
  have B := zq_bnd hwf hwe
  have B9 : zq_hs H w 9 ≤ 142 := zq_hs9 (fun b hb => (B b (Nat.zero_le b) hb).2)
  have hnl := zq_nm_lt hwf hwe l h p2 p4
  rw [p1] at HP
  unfold wpX_spread_2
  dsimp only
  refine pk_loop (fun n i (x : Nat) => wX_spread_2_4 post (nI k) nu pa op sz a1 a2 a3 a4 a5 a6 a7 n (nI x) (nI i))
    (fun i x => x < 9 ∧ H x = true ∧ zq_hs H w x ≤ k ∧ (0 < i → x < i ∧ (k < zq_hs H w i → k < zq_hs H w (x + 1)))) 9 0 0 (by omega) ⟨by omega, n1, Nat.zero_le k, fun z => absurd z (by omega)⟩ ?_ ?_
  · intro n x q
    obtain ⟨q1, q2, q3, q4⟩ := q
    have q5 := (q4 (by omega)).2 hk
    rw [zq_hs_s q2] at q5
    have e : x = h := zq_hdu q2 q3 q5 p3 (by omega) (by omega)
    subst e
    refine pk_le 9 9 (fun _ => ⟨pk_in x 9 q1, ?_⟩) (fun z => absurd z (by omega))
    rw [nI_clamp (show x < 2 ^ 31 by omega), h4 x q1, if_pos q2]
    refine nm_r (e' := nI (zq_nm f s w x l)) (by rw [pk_sub q3, p5, Nat.add_sub_cancel_left]) (nm_e ⟨l.length + 2, ?_⟩)
    refine zw_s75_2 hwf hf hs hwe h3 l x 0 (upd a6 0 (nI x)) q1 p4 (Nat.zero_le x) (fun a6' r1 r2 => ?_)
    have e1 : (x :: l).length = 0 + 1 + l.length := by
      show l.length + 1 = _
      omega
    rw [← e1]
    refine HP a6' (fun j hj => ?_)
    cases j with
    | zero =>
      rw [r1 0 (by omega), pk_us]
      rfl
    | succ j =>
      have r := r2 j (by rw [e1] at hj; omega)
      rw [show 0 + 1 + j = j + 1 by omega] at r
      rw [r]
      rfl
  · intro n i x hi q hw
    obtain ⟨q1, q2, q3, q4⟩ := q
    refine pk_le 9 i (fun z => absurd z (by omega)) (fun _ => ⟨pk_in i 9 hi, ?_⟩)
    have Bi := B i (Nat.zero_le i) hi
    have hXi := zq_fbx i hi
    have hm : zq_hs H w i ≤ zq_hs H w 9 := zq_hs_m (by omega)
    rw [nI_clamp (show i < 2 ^ 31 by omega), h4 i hi, h3 i hi]
    cases g : H i with
    | false =>
      rw [if_neg Bool.false_ne_true]
      refine br_t rfl (nm_r (nI_1 i) (hw x ⟨q1, q2, q3, fun _ => ?_⟩))
      rw [zq_hs_n g]
      by_cases z : i = 0
      · exact absurd (show H i = true by rw [z]; exact n1) (by rw [g]; exact Bool.false_ne_true)
      · exact ⟨by have := (q4 (by omega)).1; omega, (q4 (by omega)).2⟩
    | true =>
      rw [if_pos rfl]
      refine br_f (zq_m4 (by omega)) ⟨pk_in i 9 hi, br_f (nI_nle (by omega) (by omega)) ⟨pk_in i 9 hi, ?_⟩⟩
      refine pk_lt k (zq_hs H w i) (fun z => nm_r (nI_1 i) (hw x ⟨q1, q2, q3, fun _ => ?_⟩)) (fun z => nm_r (nI_1 i) (hw i ⟨hi, g, z, fun _ => ⟨by omega, fun y => y⟩⟩))
      have z0 : 0 < i := by
        rcases Nat.eq_zero_or_pos i with y | y
        · rw [y] at z
          exact absurd z (Nat.not_lt_zero k)
        · exact y
      exact ⟨by have := (q4 z0).1; omega, fun _ => (q4 z0).2 z⟩
theorem zw_co9_2 {post : Int32 → St1 → Prop} {nu pa op : Int32} {a1 a2 a3 a4 a5 a6 a7 : Nat → Int32} {n : Nat} (hn : n < 100) :
    ∀ (l : List Nat) (ac i : Nat), i + l.length = n → (∀ c, c < l.length → a6 (i + c) = nI (l.getD c 0)) → post (nI (zq_cd ac l)) (nu, pa, op, nI n, a1, a2, a3, a4, a5, a6, a7) →
      n ≤ 9 → wX_codeOf_2_9 post nu pa op (nI n) a1 a2 a3 a4 a5 a6 a7 (l.length + 1) (nI ac) (nI i) := by
  intro l
  induction l with
  | nil =>
    intro ac i h1 h2 hp h9
    have e : i = n := h1
    exact pk_le n i (fun _ => hp) (fun z => absurd z (by omega))
  | cons c l ih =>
    intro ac i h1 h2 hp h9
    have el : (c :: l).length = l.length + 1 := rfl
    rw [el] at h1
    refine pk_le n i (fun z => absurd z (by omega)) (fun _ => ⟨pk_in i 9 (by omega), nm_r (e' := nI (ac * 10 + c + 1)) ?_ (nm_r (nI_1 i) ?_)⟩)
    · have q : a6 i = nI c := h2 0 (by rw [el]; omega)
      rw [nI_clamp (show i < 2 ^ 31 by omega), q, show (10 : Int32) = nI 10 from rfl, pk_mul, nI_add, nI_1]
    · refine ih (ac * 10 + c + 1) (i + 1) (by omega) (fun d hd => ?_) hp h9
      have q : a6 (i + (d + 1)) = nI (l.getD d 0) := h2 (d + 1) (by rw [el]; omega)
      rw [show i + 1 + d = i + (d + 1) by omega, q]
theorem zw_codeOf_2 {post : Int32 → St1 → Prop} {nu pa op sz : Int32} {a1 a2 a3 a4 a5 a6 a7 : Nat → Int32} {f s w : Nat → Nat} {H : Nat → Bool} {pth : Nat → List Nat} {k : Nat} (hN : zq_N f s w H pa a1 a2 a3 a4) (hpt : zq_pt f s w H pth) (hk : k < zq_hs H w 9)
    (HP : ∀ z a6', post (nI (zq_co pth k)) (nu, pa, op, z, a1, a2, a3, a4, a5, a6', a7)) :
    wpX_codeOf_2 post (nu, pa, op, sz, a1, a2, a3, a4, a5, a6, a7) (nI k) := by
  unfold wpX_codeOf_2
  dsimp only
  refine zw_spread_2 hN hpt hk (fun a6' q => ⟨(pth k).length + 1, ?_⟩)
  obtain ⟨h, l, p1, p2, p3, p4, p5⟩ := hpt k hk
  have q4 := zq_vd_len l h p2 p4
  have e : (pth k).length ≤ 9 := by
    rw [p1]
    show l.length + 1 ≤ 9
    omega
  refine zw_co9_2 (by omega) (pth k) 0 0 (by omega) (fun c hc => ?_) (HP _ _) e
  rw [Nat.zero_add]
  exact q c hc
end
section
/-! the number of a path, out of its code -/
theorem zw_bad {post : Int32 → Prop} {u : St1} {b : Nat} (hb : b < 9) (hp : post 0) : wpX_bad post u (nI b) := by
  obtain ⟨nu, pa, op, sz, a1, a2, a3, a4, a5, a6, a7⟩ := u
  unfold wpX_bad
  exact br_f (nI_pos (by omega)) (pk_lt b 9 (fun _ => hp) (fun z => absurd z (by omega)))
theorem zw_num1 {post : St1 → Prop} {pa op sz : Int32} {a1 a2 a3 a4 a5 a6 a7 : Nat → Int32} (hp : post (1, pa, op, sz, a1, a2, a3, a4, a5, a6, a7)) : wpX_number post (1, pa, op, sz, a1, a2, a3, a4, a5, a6, a7) := by
  unfold wpX_number
  dsimp only
  exact br_f (by decide) hp
theorem zq_dg {a q r c : Nat} (hr : r < q) (hc : c < 9) : ((a * 10 + c + 1) * q + r) / q = a * 10 + c + 1 ∧ (a * 10 + c + 1) % 10 = c + 1 := by
  refine ⟨?_, by omega⟩
  generalize a * 10 + c + 1 = t
  exact Nat.div_eq_of_lt_le (by omega) (by rw [Nat.succ_mul]; omega)
theorem zw_n129 {post : Int32 → Prop} {J : Int32 → Int32 → Int32 → Prop} {x1 : Int32} {nu pa op sz : Int32} {a1 a2 a3 a4 a5 a6 a7 : Nat → Int32} {f s w : Nat → Nat} {b c m q : Nat} (hb : b < 9) (hc : c < 9) (hq : q < 2 ^ 31) (hwf : zq_wf f s) (hf : zq_A f a1) (hs : zq_A s a2) (h3 : ∀ c, c < 9 → a3 c = nI (w c))
    (hJ : J (nI c) (nI (m + zq_ad f s w b c)) (nI (q / 10))) : wX_numberOf_129 post J x1 (nI b) (nI m) (nI q) (nI c) nu pa op sz a1 a2 a3 a4 a5 a6 a7 := by
  unfold wX_numberOf_129
  exact zw_added (w := w) hb hc hwf hf hs h3 (nm_r (nI_add m _) ⟨by decide, nm_r (pk_div (d := 10) hq (by decide) (by decide)) hJ⟩)
theorem zw_n82 {post : Int32 → Prop} {nu pa op sz : Int32} {a1 a2 a3 a4 a5 a6 a7 : Nat → Int32} {f s w : Nat → Nat} {x : Nat} (hx : x < 2 ^ 31) (hwf : zq_wf f s) (hf : zq_A f a1) (hs : zq_A s a2) (h3 : ∀ b, b < 9 → a3 b = nI (w b)) :
    ∀ (l : List Nat) (b ac m : Nat), b < 9 → zq_vd f s b l → zq_cd ac l = x → post (nI (m + zq_nm f s w b l)) →
      wX_numberOf_82 post (nI x) nu pa op sz a1 a2 a3 a4 a5 a6 a7 (l.length + 1) (nI b) (nI m) (nI (10 ^ l.length / 10)) := by
  intro l
  induction l with
  | nil =>
    intro b ac m hb hv hc hp
    have hv1 : zq_own f s b = 1 := hv
    refine pk_le (10 ^ 0 / 10) 0 (fun _ => zw_isEnd hb hwf hf hs ?_) (fun z => absurd z (by omega))
    rw [hv1]
    exact br_f (by decide) hp
  | cons c l ih =>
    intro b ac m hb hv hc hp
    obtain ⟨v1, v2, v3, v4⟩ := hv
    obtain ⟨w1, w2, w3, w4⟩ := hwf b hb
    have hl := zq_vd_len l c v2 v4
    have p1 : 0 < 10 ^ l.length := Nat.pow_pos (by decide)
    have p2 : 10 ^ l.length ≤ 10 ^ 8 := Nat.pow_le_pow_right (by decide) (by omega)
    have el : (c :: l).length = l.length + 1 := rfl
    have ep : 10 ^ (l.length + 1) / 10 = 10 ^ l.length := by rw [Nat.pow_succ, Nat.mul_div_cancel _ (by decide)]
    have ex : zq_cd ac (c :: l) = (ac * 10 + c + 1) * 10 ^ l.length + zq_cd 0 l := zq_cd_sp l (ac * 10 + c + 1)
    have dl := zq_cd_lt l (fun d hd => (zq_vd_mem l c v4 d hd).2)
    obtain ⟨d1, d2⟩ := zq_dg (a := ac) (c := c) dl v2
    rw [← ex, hc] at d1
    have hJ : wX_numberOf_82 post (nI x) nu pa op sz a1 a2 a3 a4 a5 a6 a7 (l.length + 1) (nI c) (nI (m + zq_ad f s w b c)) (nI (10 ^ l.length / 10)) := by
      refine ih c (ac * 10 + c + 1) (m + zq_ad f s w b c) v2 v4 hc ?_
      have e : m + zq_nm f s w b (c :: l) = m + zq_ad f s w b c + zq_nm f s w c l := (Nat.add_assoc _ _ _).symm
      rw [e] at hp
      exact hp
    rw [el, ep]
    have W : wX_numberOf_129 post (wX_numberOf_82 post (nI x) nu pa op sz a1 a2 a3 a4 a5 a6 a7 (l.length + 1)) (nI x) (nI b) (nI m) (nI (10 ^ l.length)) (nI c) nu pa op sz a1 a2 a3 a4 a5 a6 a7 := zw_n129 (w := w) hb v2 (by omega) hwf hf hs h3 hJ
    refine pk_le (10 ^ l.length) 0 (fun z => absurd z (by omega)) (fun _ => ⟨nI_ne0 p1 (by omega), by decide, nm_r (e' := nI c) ?_ ?_⟩)
    · have e1 : nI x / nI (10 ^ l.length) = nI (ac * 10 + c + 1) := by rw [pk_div hx p1 (by omega), d1]
      have hle : ac * 10 + c + 1 ≤ x := by rw [← d1]; exact Nat.div_le_self _ _
      have e2 : nI (ac * 10 + c + 1) - nI (ac * 10 + c + 1) / nI 10 * nI 10 = nI (c + 1) := by rw [pk_rem (by omega) (by decide) (by decide), d2]
      rw [e1]
      show nI (ac * 10 + c + 1) - nI (ac * 10 + c + 1) / nI 10 * nI 10 - 1 = nI c
      rw [e2, nI_pred]
    · refine pk_le c b (fun z => absurd z (by omega)) (fun _ => ⟨pk_in b 9 hb, ?_⟩)
      rw [nI_clamp (show b < 2 ^ 31 by omega), hf b hb, hs b hb]
      refine br_c (fun _ => W) (fun z => ⟨pk_in b 9 hb, br_t ((zq_dI_en w2 (by omega)).mpr ?_) W⟩)
      rcases v3 with q | q
      · exact absurd ((zq_dI_en w1 (by omega)).mpr q) z
      · exact q
theorem zw_times {post : Int32 → St1 → Prop} {pa op sz : Int32} {a1 a2 a3 a4 a5 a6 a7 : Nat → Int32} {f s w : Nat → Nat} {H : Nat → Bool} {pth : Nat → List Nat} {k : Nat} (hN : zq_N f s w H pa a1 a2 a3 a4) (hpt : zq_pt f s w H pth) (hk : k < zq_hs H w 9)
    (HP : post (a5 k) (1, pa, op, sz, a1, a2, a3, a4, a5, a6, a7)) :
    wpX_times post (1, pa, op, sz, a1, a2, a3, a4, a5, a6, a7) (nI (zq_co pth k)) := by
  obtain ⟨hwf, hf, hs, hwe, n1, n2, n3, h3, h4, hpa⟩ := hN
  have hcb := zq_co_b hpt hk
  obtain ⟨h, l, p1, p2, p3, p4, p5⟩ := hpt k hk
  have B := zq_bnd hwf hwe
  have B9 : zq_hs H w 9 ≤ 142 := zq_hs9 (fun b hb => (B b (Nat.zero_le b) hb).2)
  unfold wpX_times
  dsimp only
  refine zw_num1 ?_
  dsimp only
  unfold wpX_numberOf
  dsimp only
  have exq : zq_co pth k = zq_cd 0 (h :: l) := by
    unfold zq_co
    rw [p1]
  generalize zq_co pth k = x at exq hcb
  have hl := zq_vd_len l h p2 p4
  have q1 : 0 < 10 ^ l.length := Nat.pow_pos (by decide)
  have q2 : 10 ^ l.length ≤ 10 ^ 8 := Nat.pow_le_pow_right (by decide) (by omega)
  have ex : zq_cd 0 (h :: l) = (0 * 10 + h + 1) * 10 ^ l.length + zq_cd 0 l := zq_cd_sp l (0 * 10 + h + 1)
  have dl := zq_cd_lt l (fun d hd => (zq_vd_mem l h p4 d hd).2)
  obtain ⟨d1, d2⟩ := zq_dg (a := 0) (c := h) dl p2
  rw [← ex, ← exq] at d1
  have x1 := zq_cd_ge h l
  have x2 : zq_cd 0 (h :: l) < 10 ^ (l.length + 1) := zq_cd_lt (h :: l) (zq_pt_9 p2 p4)
  rw [← exq] at x1 x2
  rw [Nat.pow_succ] at x2
  have hlen : k < 2 ^ 31 := by omega
  have hpost : (0 ≤ nI k → (vp_in (nI k) 160 ∧ (post (a5 (nI k).toNatClampNeg) (1, pa, op, sz, a1, a2, a3, a4, a5, a6, a7)))) ∧ (¬ 0 ≤ nI k → (post (-4) (1, pa, op, sz, a1, a2, a3, a4, a5, a6, a7))) := by
    rw [nI_clamp hlen]
    exact br_t (nI_pos' hlen) ⟨pk_in k 160 (by omega), HP⟩
  refine br_t (nI_le (a := 1) (by omega) (by omega)) ?_
  refine pk_loop (σ := Unit) (fun n i _ => wX_numberOf_12 _ (nI x) 1 pa op sz a1 a2 a3 a4 a5 a6 a7 n (nI (10 ^ i)) (nI i)) (fun _ _ => True) l.length 0 () (Nat.zero_le _) trivial ?_ ?_
  · intro n _ _
    refine pk_le 9 l.length (fun z => absurd z (by omega)) (fun _ => ⟨by decide, ?_⟩)
    refine pk_lt (x / 10) (10 ^ l.length) (fun _ => ?_) (fun z => absurd z (by omega)) (hx := pk_div (d := 10) (by omega) (by decide) (by decide))
    unfold wX_numberOf_37
    refine ⟨nI_ne0 q1 (by omega), by decide, nm_r (e' := nI h) ?_ (zw_bad p2 (br_t rfl ⟨pk_in h 9 p2, ?_⟩))⟩
    · have e1 : nI x / nI (10 ^ l.length) = nI (0 * 10 + h + 1) := by rw [pk_div (by omega) q1 (by omega), d1]
      have e2 : nI (0 * 10 + h + 1) - nI (0 * 10 + h + 1) / nI 10 * nI 10 = nI (h + 1) := by rw [pk_rem (by omega) (by decide) (by decide), d2]
      rw [e1]
      show nI (0 * 10 + h + 1) - nI (0 * 10 + h + 1) / nI 10 * nI 10 - 1 = nI h
      rw [e2, nI_pred]
    · rw [nI_clamp (show h < 2 ^ 31 by omega), h4 h p2, if_pos p3]
      have hm : zq_hs H w h ≤ zq_hs H w 9 := zq_hs_m (by omega)
      refine br_f (zq_m4 (by omega)) ⟨pk_in h 9 p2, nm_e ⟨by decide, nm_r (pk_div (d := 10) (by omega) (by decide) (by decide)) ⟨l.length + 1, ?_⟩⟩⟩
      refine zw_n82 (w := w) (by omega) hwf hf hs h3 l h (0 * 10 + h + 1) (zq_hs H w h) p2 p4 ?_ ?_
      · exact exq.symm
      · rw [← p5]
        exact hpost
  · intro n i _ hi _ hw
    have r1 : 10 ^ (i + 1) ≤ 10 ^ l.length := Nat.pow_le_pow_right (by decide) hi
    have r2 : 10 ^ i ≤ 10 ^ l.length := Nat.pow_le_pow_right (by decide) (by omega)
    have r3 := Nat.pow_succ 10 i
    refine pk_le 9 i (fun z => absurd z (by omega)) (fun _ => ⟨by decide, ?_⟩)
    refine pk_lt (x / 10) (10 ^ i) (fun z => absurd z (by omega)) (fun _ => nm_r (e' := nI (10 ^ (i + 1))) ?_ (nm_r (nI_1 i) (hw () trivial))) (hx := pk_div (d := 10) (by omega) (by decide) (by decide))
    rw [show (10 : Int32) = nI 10 from rfl, pk_mul, r3]
end
section
/-! the codes in order -/
theorem zw_p42 {post : Int32 → St1 → Prop} {J : Int32 → Int32 → Int32 → Int32 → Int32 → (Nat → Int32) → (Nat → Int32) → (Nat → Int32) → (Nat → Int32) → (Nat → Int32) → (Nat → Int32) → (Nat → Int32) → Prop} {x1 nu pa op sz : Int32} {a1 a2 a3 a4 a5 a6 a7 : Nat → Int32} {v : Nat → Nat} {x i : Nat} (hi : i < 160) (hx : x < 2 ^ 31) (hv : ∀ m, m < i → v m < 2 ^ 31) (hm : ∀ m n, m < n → n < i → v m ≤ v n)
    (h7 : ∀ m, m < i → a7 m = nI (v m)) (h7i : a7 i = nI x)
    (HP : ∀ p a7', p ≤ i → (∀ m, m < p → v m ≤ x) → (∀ m, p ≤ m → m < i → x < v m) → (∀ m, m < i + 1 → a7' m = nI (zq_in v p x m)) → J (nI (i + 1)) nu pa op sz a1 a2 a3 a4 a5 a6 a7') :
    ∃ n, wX_path_42 post J x1 (nI i) nu pa op sz n (nI i) a1 a2 a3 a4 a5 a6 a7 := by
  refine ⟨i + 1, ?_⟩
  refine pk_loopD (fun n j y => wX_path_42 post J x1 (nI i) nu pa op sz n (nI j) a1 a2 a3 a4 a5 a6 y)
    (fun j y => j ≤ i ∧ (∀ m, m < i + 1 → y m = nI (zq_in v j x m)) ∧ (∀ m, j ≤ m → m < i → x < v m)) ?_ ?_ i a7 ⟨Nat.le_refl i, fun m hm => ?_, fun m h1 h2 => absurd h2 (by omega)⟩
  · intro n y q
    obtain ⟨q1, q2, q3⟩ := q
    exact pk_le 0 0 (fun _ => nm_r (nI_1 i) (HP 0 y q1 (fun m h => absurd h (Nat.not_lt_zero m)) q3 q2)) (fun z => absurd z (by omega))
  · intro n j y q hw
    obtain ⟨q1, q2, q3⟩ := q
    have e1 : y (j + 1) = nI x := by rw [q2 (j + 1) (by omega), zq_in_eq]
    have e2 : y j = nI (v j) := by rw [q2 j (by omega), zq_in_lt (by omega)]
    have b1 := hv j (by omega)
    refine pk_le (j + 1) 0 (fun z => absurd z (by omega)) (fun _ => ?_)
    rw [nI_pred, nI_clamp (show j + 1 < 2 ^ 31 by omega), nI_clamp (show j < 2 ^ 31 by omega)]
    refine ⟨pk_in (j + 1) 160 (by omega), pk_in j 160 (by omega), pk_le (v j) x (fun z => ?_) (fun z => ?_) (hx := e2) (hy := e1)⟩
    · refine nm_r (nI_1 i) (HP (j + 1) y q1 (fun m h => ?_) q3 q2)
      by_cases e : m = j
      · rw [e]
        exact z
      · exact Nat.le_trans (hm m j (by omega) (by omega)) z
    · refine ⟨pk_in (j + 1) 160 (by omega), nm_e ⟨pk_in j 160 (by omega), pk_in (j + 1) 160 (by omega), nm_e ⟨pk_in j 160 (by omega), nm_e (nm_r (pk_m1 j) (hw _ ⟨by omega, fun m h => ?_, fun m h1 h2 => ?_⟩))⟩⟩⟩
      · by_cases c1 : m = j
        · rw [c1, pk_us, e1, zq_in_eq]
        · rw [pk_un c1]
          by_cases c2 : m = j + 1
          · rw [c2, pk_us, e2, zq_in_gt (by omega)]
            rfl
          · rw [pk_un c2, q2 m h]
            by_cases c3 : m < j
            · rw [zq_in_lt c3, zq_in_lt (by omega)]
            · rw [zq_in_gt (by omega), zq_in_gt (by omega)]
      · by_cases c1 : m = j
        · rw [c1]
          exact z
        · exact q3 m (by omega) h2
  · by_cases c1 : m = i
    · rw [c1, h7i, zq_in_eq]
    · rw [h7 m (by omega), zq_in_lt (by omega)]
theorem zw_path {post : Int32 → St1 → Prop} {pa op sz : Int32} {a1 a2 a3 a4 a5 a6 a7 : Nat → Int32} {f s w : Nat → Nat} {H : Nat → Bool} {pth : Nat → List Nat} {k : Nat} (hN : zq_N f s w H pa a1 a2 a3 a4) (hpt : zq_pt f s w H pth) (hk : k < zq_hs H w 9)
    (HP : ∀ v z a6' a7', zq_so (zq_co pth) (zq_hs H w 9) v → post (nI (v k)) (1, pa, op, z, a1, a2, a3, a4, a5, a6', a7')) :
    wpX_path post (1, pa, op, sz, a1, a2, a3, a4, a5, a6, a7) (nI k) := by
  have hN' := hN
  obtain ⟨hwf, hf, hs, hwe, n1, n2, n3, h3, h4, hpa⟩ := hN'
  have B := zq_bnd hwf hwe
  have B9 : zq_hs H w 9 ≤ 142 := zq_hs9 (fun b hb => (B b (Nat.zero_le b) hb).2)
  unfold wpX_path
  dsimp only
  refine zw_num1 ?_
  dsimp only
  refine br_f (nI_pos (by omega)) (pk_lt k (zq_hs H w 9) (fun _ => ?_) (fun z => absurd z (by omega)) (hy := hpa))
  refine pk_loop (σ := Int32 × (Nat → Int32) × (Nat → Int32)) (fun n i y => wX_path_21 post (nI k) n (nI i) 1 pa op y.1 a1 a2 a3 a4 a5 y.2.1 y.2.2)
    (fun i y => ∃ v, zq_so (zq_co pth) i v ∧ ∀ m, m < i → y.2.2 m = nI (v m)) (zq_hs H w 9) 0 (sz, a6, a7) (Nat.zero_le _) ?_ ?_ ?_
  · exact ⟨zq_co pth, ⟨fun i j _ hj => absurd hj (Nat.not_lt_zero j), List.Perm.refl _⟩, fun m h => absurd h (Nat.not_lt_zero m)⟩
  · intro n y q
    obtain ⟨v, q1, q2⟩ := q
    refine pk_le (zq_hs H w 9) (zq_hs H w 9) (fun _ => ⟨pk_in k 160 (by omega), ?_⟩) (fun z => absurd z (by omega)) (hx := hpa)
    rw [nI_clamp (show k < 2 ^ 31 by omega), q2 k hk]
    exact HP v _ _ _ q1
  · intro n i y hi q hw
    obtain ⟨v, q1, q2⟩ := q
    refine pk_le (zq_hs H w 9) i (fun z => absurd z (by omega)) (fun _ => zw_codeOf_2 hN hpt hi (fun z a6' => ⟨pk_in i 160 (by omega), ?_⟩)) (hx := hpa)
    rw [nI_clamp (show i < 2 ^ 31 by omega)]
    have hb : ∀ m, m < i → v m < 2 ^ 31 := by
      intro m hm
      obtain ⟨c, c1, c2⟩ := zq_so_mem q1 hm
      have := (zq_co_b hpt (show c < zq_hs H w 9 by omega)).2
      omega
    have hc := (zq_co_b hpt hi).2
    refine nm_e (zw_p42 (v := v) (x := zq_co pth i) (by omega) (by omega) hb q1.1 (fun m hm => ?_) pk_us (fun p a7' p1 p2 p3 p4 => hw (z, a6', a7') ⟨zq_in v p (zq_co pth i), zq_in_so q1 p1 p2 p3, p4⟩))
    rw [pk_un (by omega), q2 m hm]
theorem zw_pathN {post : Int32 → St1 → Prop} {pa op sz : Int32} {a1 a2 a3 a4 a5 a6 a7 : Nat → Int32} {k : Nat} (hpa : pa = nI k) (hk : k < 2 ^ 31) (HP : post (-4) (1, pa, op, sz, a1, a2, a3, a4, a5, a6, a7)) :
    wpX_path post (1, pa, op, sz, a1, a2, a3, a4, a5, a6, a7) (nI k) := by
  unfold wpX_path
  dsimp only
  refine zw_num1 ?_
  dsimp only
  exact br_f (nI_pos hk) (pk_lt k k (fun z => absurd z (by omega)) (fun _ => HP) (hy := hpa))
end
section
/-! the questions: gone, distinct, hottest, visits, arc -/
theorem zw_possible {post : Int32 → St1 → Prop} {nu pa op sz : Int32} {a1 a2 a3 a4 a5 a6 a7 : Nat → Int32} {f s : Nat → Nat} (hwf : zq_wf f s) (hf : zq_A f a1) (hs : zq_A s a2) (hn : nu = 0 ∨ (nu = 1 ∧ ∃ w H, zq_nf f s w H pa a3 a4))
    (HP : ∀ w H a3' a4', zq_N f s w H (nI (zq_hs H w 9)) a1 a2 a3' a4' → post (nI (zq_hs H w 9)) (1, nI (zq_hs H w 9), op, sz, a1, a2, a3', a4', a5, a6, a7)) :
    wpX_possible post (nu, pa, op, sz, a1, a2, a3, a4, a5, a6, a7) := by
  unfold wpX_possible
  dsimp only
  refine zw_number hwf hf hs hn (fun w H pa' a3' a4' q => ?_)
  dsimp only
  obtain ⟨q1, q2, q3, q4, q5, q6, q7⟩ := q
  subst q7
  exact HP w H a3' a4' ⟨hwf, hf, hs, q1, q2, q3, q4, q5, q6, rfl⟩
def zq_C (C : Nat → Nat) (P : Nat) (a5 : Nat → Int32) : Prop := ∀ k, k < P → a5 k = nI (C k) ∧ C k < 2 ^ 31
theorem zw_gone {post : Int32 → St1 → Prop} {op sz : Int32} {a1 a2 a3 a4 a5 a6 a7 : Nat → Int32} {C : Nat → Nat} {P : Nat} (hP : P ≤ 142) (hC : zq_C C P a5)
    (HP : post (nI (zq_sm C P)) (1, nI P, op, sz, a1, a2, a3, a4, a5, a6, a7)) : wpX_gone post (1, nI P, op, sz, a1, a2, a3, a4, a5, a6, a7) := by
  unfold wpX_gone
  dsimp only
  refine zw_num1 ?_
  dsimp only
  refine pk_loop (σ := Unit) (fun n i _ => wX_gone_8 post 1 (nI P) op sz a1 a2 a3 a4 a5 a6 a7 n (nI (zq_sm C i)) (nI i)) (fun _ _ => True) P 0 () (Nat.zero_le _) trivial ?_ ?_
  · intro n _ _
    exact pk_le P P (fun _ => HP) (fun z => absurd z (by omega))
  · intro n i _ hi _ hw
    exact pk_le P i (fun z => absurd z (by omega)) (fun _ => ⟨pk_in i 160 (by omega), nm_r (e' := nI (zq_sm C (i + 1))) (by rw [nI_clamp (by omega), (hC i hi).1, nI_add]; rfl) (nm_r (nI_1 i) (hw () trivial))⟩)
def zq_ds (C : Nat → Nat) (k : Nat) : Nat := if 0 < C k then 1 else 0
theorem zw_distinct {post : Int32 → St1 → Prop} {op sz : Int32} {a1 a2 a3 a4 a5 a6 a7 : Nat → Int32} {C : Nat → Nat} {P : Nat} (hP : P ≤ 142) (hC : zq_C C P a5)
    (HP : post (nI (zq_sm (zq_ds C) P)) (1, nI P, op, sz, a1, a2, a3, a4, a5, a6, a7)) : wpX_distinct post (1, nI P, op, sz, a1, a2, a3, a4, a5, a6, a7) := by
  unfold wpX_distinct
  dsimp only
  refine zw_num1 ?_
  dsimp only
  refine pk_loop (σ := Unit) (fun n i _ => wX_distinct_8 post 1 (nI P) op sz a1 a2 a3 a4 a5 a6 a7 n (nI (zq_sm (zq_ds C) i)) (nI i)) (fun _ _ => True) P 0 () (Nat.zero_le _) trivial ?_ ?_
  · intro n _ _
    exact pk_le P P (fun _ => HP) (fun z => absurd z (by omega))
  · intro n i _ hi _ hw
    have hc := (hC i hi).2
    have t := hw () trivial
    have e : zq_sm (zq_ds C) (i + 1) = zq_sm (zq_ds C) i + zq_ds C i := rfl
    refine pk_le P i (fun z => absurd z (by omega)) (fun _ => ⟨pk_in i 160 (by omega), ?_⟩)
    rw [nI_clamp (show i < 2 ^ 31 by omega)]
    refine pk_le (C i) 0 (fun z => nm_r (nI_1 i) ?_) (fun z => nm_r (nI_1 _) (nm_r (nI_1 i) ?_)) (hx := (hC i hi).1)
    · have e2 : zq_ds C i = 0 := if_neg (by omega)
      rw [e, e2, Nat.add_zero] at t
      exact t
    · have e2 : zq_ds C i = 1 := if_pos z
      rw [e, e2] at t
      exact t
theorem zw_h61 {post : Int32 → St1 → Prop} {J : Int32 → Int32 → Int32 → Int32 → Int32 → Int32 → Int32 → (Nat → Int32) → (Nat → Int32) → (Nat → Int32) → (Nat → Int32) → (Nat → Int32) → (Nat → Int32) → (Nat → Int32) → Prop} {x4 nu pa op sz : Int32} {a1 a2 a3 a4 a5 a6 a7 : Nat → Int32} {i : Nat} (hi : i < 160)
    (hJ : J x4 (a5 i) (nI (i + 1)) nu pa op sz a1 a2 a3 a4 a5 a6 a7) : wX_hottest_61 post J (nI i) x4 nu pa op sz a1 a2 a3 a4 a5 a6 a7 := by
  unfold wX_hottest_61
  rw [nI_clamp (show i < 2 ^ 31 by omega)]
  exact ⟨pk_in i 160 hi, nm_e (nm_r (nI_1 i) hJ)⟩
theorem zw_hottest {post : Int32 → St1 → Prop} {op sz : Int32} {a1 a2 a3 a4 a5 a6 a7 : Nat → Int32} {f s w : Nat → Nat} {H : Nat → Bool} {pth : Nat → List Nat} {C : Nat → Nat} (hP : zq_hs H w 9 ≤ 142) (hN : zq_N f s w H (nI (zq_hs H w 9)) a1 a2 a3 a4) (hpt : zq_pt f s w H pth) (hC : zq_C C (zq_hs H w 9) a5)
    (HP : ∀ r z a6', (r = -4 ↔ zq_sm C (zq_hs H w 9) = 0) → post r (1, nI (zq_hs H w 9), op, z, a1, a2, a3, a4, a5, a6', a7)) : wpX_hottest post (1, nI (zq_hs H w 9), op, sz, a1, a2, a3, a4, a5, a6, a7) := by
  unfold wpX_hottest
  dsimp only
  refine zw_num1 ?_
  dsimp only
  refine pk_loop (σ := Int32 × Int32 × Int32 × (Nat → Int32)) (fun n i y => wX_hottest_11 post n y.1 y.2.1 (nI i) 1 (nI (zq_hs H w 9)) op y.2.2.1 a1 a2 a3 a4 a5 y.2.2.2 a7)
    (fun i y => (y.1 = -4 ∧ y.2.1 = 0 ∧ ∀ j, j < i → C j = 0) ∨ ((∃ c, c < 2 ^ 31 ∧ y.1 = nI c) ∧ ∃ j, j < i ∧ 0 < C j)) (zq_hs H w 9) 0 (-4, 0, sz, a6) (Nat.zero_le _) (Or.inl ⟨rfl, rfl, fun j hj => absurd hj (Nat.not_lt_zero j)⟩) ?_ ?_
  · intro n y q
    refine pk_le (zq_hs H w 9) (zq_hs H w 9) (fun _ => HP _ _ _ ?_) (fun z => absurd z (by omega))
    rcases q with ⟨q1, q2, q3⟩ | ⟨⟨c, c1, c2⟩, j, j1, j2⟩
    · exact ⟨fun _ => zq_sm_z _ q3, fun _ => q1⟩
    · refine ⟨fun z => absurd (c2.symm.trans z) (zq_m4 c1), fun z => ?_⟩
      have := zq_sm_z' _ z j j1
      omega
  · intro n i y hi q hw
    obtain ⟨y1, y2, y3, y4⟩ := y
    dsimp only at q
    have hc := (hC i hi).2
    have hk := (zq_co_b hpt hi).2
    refine pk_le (zq_hs H w 9) i (fun z => absurd z (by omega)) (fun _ => ⟨pk_in i 160 (by omega), ?_⟩)
    dsimp only
    rw [nI_clamp (show i < 2 ^ 31 by omega)]
    have new : 0 < C i → ∀ z a6', wX_hottest_61 post (wX_hottest_11 post n) (nI i) (nI (zq_co pth i)) 1 (nI (zq_hs H w 9)) op z a1 a2 a3 a4 a5 a6' a7 := by
      intro g z a6'
      exact zw_h61 (by omega) (hw (nI (zq_co pth i), a5 i, z, a6') (Or.inr ⟨⟨zq_co pth i, by omega, rfl⟩, i, by omega, g⟩))
    refine pk_le (C i) 0 (fun g => nm_r (nI_1 i) (hw (y1, y2, y3, y4) ?_)) (fun g => ⟨pk_in i 160 (by omega), ?_⟩) (hx := (hC i hi).1)
    · rcases q with ⟨q1, q2, q3⟩ | ⟨q1, j, j1, j2⟩
      · refine Or.inl ⟨q1, q2, fun j hj => ?_⟩
        by_cases e : j = i
        · rw [e]
          omega
        · exact q3 j (by omega)
      · exact Or.inr ⟨q1, j, by omega, j2⟩
    · rcases q with ⟨q1, q2, q3⟩ | ⟨q1, j, j1, j2⟩
      · subst q2
        rw [(hC i hi).1]
        exact br_f (nI_pos hc) (zw_codeOf hN hpt hi (fun z a6' => ⟨pk_in i 160 (by omega), br_t (show (0 : Int32) < a5 i by rw [(hC i hi).1]; exact nI_lt (a := 0) g hc) (new g z a6')⟩))
      · refine br_c (fun _ => nm_r (nI_1 i) (hw (y1, y2, y3, y4) (Or.inr ⟨q1, j, by omega, j2⟩))) (fun _ => zw_codeOf hN hpt hi (fun z a6' => ⟨pk_in i 160 (by omega), ?_⟩))
        refine br_c (fun _ => new g z a6') (fun _ => br_c (fun _ => nm_r (nI_1 i) (hw (y1, y2, z, a6') (Or.inr ⟨q1, j, by omega, j2⟩))) (fun _ => new g z a6'))
def zq_bI : Bool → Int32
  | true => 1
  | false => 0
theorem zq_bI_n (t : Bool) : narrow .boolean (.int (zq_bI t)) = .int (zq_bI t) := by
  cases t <;> decide
theorem zw_inList {post : Int32 → Prop} {nu pa op : Int32} {a1 a2 a3 a4 a5 a6 a7 : Nat → Int32} {p : Nat → Nat} {n b : Nat} (hn : n ≤ 9) (hb : b < 9) (h6 : ∀ j, j < n → a6 j = nI (p j) ∧ p j < 9)
    (HP : post (zq_bI (zq_fn p b n))) : wpX_inList post (nu, pa, op, nI n, a1, a2, a3, a4, a5, a6, a7) (nI b) := by
  unfold wpX_inList
  dsimp only
  refine pk_loop (σ := Unit) (fun m i _ => wX_inList_4 post (nI b) nu pa op (nI n) a1 a2 a3 a4 a5 a6 a7 m (zq_bI (zq_fn p b i)) (nI i)) (fun _ _ => True) n 0 () (Nat.zero_le _) trivial ?_ ?_
  · intro m _ _
    exact pk_le n n (fun _ => ⟨zq_bI_n _, HP⟩) (fun z => absurd z (by omega))
  · intro m i _ hi _ hw
    have t := hw () trivial
    have e : zq_fn p b (i + 1) = (zq_fn p b i || (p i == b)) := rfl
    obtain ⟨e1, e2⟩ := h6 i hi
    refine pk_le n i (fun z => absurd z (by omega)) (fun _ => ?_)
    cases g : zq_fn p b i with
    | true =>
      rw [e, g, Bool.true_or] at t
      exact br_f (show ¬ (1 : Int32) = 0 by decide) (nm_r (nI_1 i) t)
    | false =>
      rw [e, g, Bool.false_or] at t
      refine br_t rfl ⟨pk_in i 9 (by omega), ?_⟩
      rw [nI_clamp (show i < 2 ^ 31 by omega)]
      refine pk_eq (p i) b (fun z => nm_r (nI_1 i) ?_) (fun z => nm_r (nI_1 i) ?_) (hx := e1)
      · rw [z, beq_self_eq_true] at t
        exact t
      · rw [beq_false_of_ne z] at t
        exact t
theorem zw_hasArc {post : Int32 → Prop} {nu pa op : Int32} {a1 a2 a3 a4 a5 a6 a7 : Nat → Int32} {p : Nat → Nat} {n b c : Nat} (hn : n + 1 ≤ 9) (hb : b < 9) (hc : c < 9) (h6 : ∀ j, j < n + 1 → a6 j = nI (p j) ∧ p j < 9)
    (HP : post (zq_bI (zq_ar p b c n))) : wpX_hasArc post (nu, pa, op, nI (n + 1), a1, a2, a3, a4, a5, a6, a7) (nI b) (nI c) := by
  unfold wpX_hasArc
  dsimp only
  refine pk_loop (σ := Unit) (fun m i _ => wX_hasArc_5 post (nI b) (nI c) nu pa op (nI (n + 1)) a1 a2 a3 a4 a5 a6 a7 m (zq_bI (zq_ar p b c i)) (nI (i + 1))) (fun _ _ => True) n 0 () (Nat.zero_le _) trivial ?_ ?_
  · intro m _ _
    exact pk_le (n + 1) (n + 1) (fun _ => ⟨zq_bI_n _, HP⟩) (fun z => absurd z (by omega))
  · intro m i _ hi _ hw
    have t := hw () trivial
    have e : zq_ar p b c (i + 1) = (zq_ar p b c i || (p i == b && p (i + 1) == c)) := rfl
    obtain ⟨e1, e2⟩ := h6 i (by omega)
    obtain ⟨e3, e4⟩ := h6 (i + 1) (by omega)
    refine pk_le (n + 1) (i + 1) (fun z => absurd z (by omega)) (fun _ => ?_)
    cases g : zq_ar p b c i with
    | true =>
      rw [e, g, Bool.true_or] at t
      exact br_f (show ¬ (1 : Int32) = 0 by decide) (nm_r (nI_1 (i + 1)) t)
    | false =>
      rw [e, g, Bool.false_or] at t
      refine br_t rfl ?_
      rw [nI_pred, nI_clamp (show i < 2 ^ 31 by omega), nI_clamp (show i + 1 < 2 ^ 31 by omega)]
      refine ⟨pk_in i 9 (by omega), pk_eq (p i) b (fun z => ⟨pk_in (i + 1) 9 (by omega), pk_eq (p (i + 1)) c (fun z2 => nm_r (nI_1 (i + 1)) ?_) (fun z2 => nm_r (nI_1 (i + 1)) ?_) (hx := e3)⟩) (fun z => nm_r (nI_1 (i + 1)) ?_) (hx := e1)⟩
      · rw [z, z2, beq_self_eq_true, beq_self_eq_true] at t
        exact t
      · rw [z, beq_self_eq_true, beq_false_of_ne z2] at t
        exact t
      · rw [beq_false_of_ne z, Bool.false_and] at t
        exact t
theorem zw_visits {post : Int32 → St1 → Prop} {op sz : Int32} {a1 a2 a3 a4 a5 a6 a7 : Nat → Int32} {f s w : Nat → Nat} {H : Nat → Bool} {pth : Nat → List Nat} {C : Nat → Nat} {b : Nat} (hb : b < 9) (hP : zq_hs H w 9 ≤ 142) (hN : zq_N f s w H (nI (zq_hs H w 9)) a1 a2 a3 a4) (hpt : zq_pt f s w H pth) (hC : zq_C C (zq_hs H w 9) a5)
    (HP : ∀ z a6', post (nI (zq_V pth C (zq_hs H w 9) b)) (1, nI (zq_hs H w 9), op, z, a1, a2, a3, a4, a5, a6', a7)) : wpX_visits post (1, nI (zq_hs H w 9), op, sz, a1, a2, a3, a4, a5, a6, a7) (nI b) := by
  unfold wpX_visits
  dsimp only
  refine zw_bad hb (br_t rfl (zw_num1 ?_))
  dsimp only
  refine pk_loop (σ := Int32 × (Nat → Int32)) (fun n i y => wX_visits_18 post (nI b) n (nI (zq_V pth C i b)) (nI i) 1 (nI (zq_hs H w 9)) op y.1 a1 a2 a3 a4 a5 y.2 a7) (fun _ _ => True) (zq_hs H w 9) 0 (sz, a6) (Nat.zero_le _) trivial ?_ ?_
  · intro n y _
    exact pk_le (zq_hs H w 9) (zq_hs H w 9) (fun _ => HP _ _) (fun z => absurd z (by omega))
  · intro n i y hi _ hw
    obtain ⟨y1, y2⟩ := y
    have hc := (hC i hi).2
    have t : ∀ z a6', wX_visits_18 post (nI b) n (nI (zq_V pth C (i + 1) b)) (nI (i + 1)) 1 (nI (zq_hs H w 9)) op z a1 a2 a3 a4 a5 a6' a7 := fun z a6' => hw (z, a6') trivial
    have e : zq_V pth C (i + 1) b = zq_V pth C i b + (if zq_fn (zq_at (pth i)) b (pth i).length = true then C i else 0) := rfl
    refine pk_le (zq_hs H w 9) i (fun z => absurd z (by omega)) (fun _ => ⟨pk_in i 160 (by omega), ?_⟩)
    dsimp only
    rw [nI_clamp (show i < 2 ^ 31 by omega)]
    refine pk_le (C i) 0 (fun g => nm_r (nI_1 i) ?_) (fun g => zw_spread hN hpt hi (fun a6' q => ?_)) (hx := (hC i hi).1)
    · have t := t y1 y2
      have e2 : (if zq_fn (zq_at (pth i)) b (pth i).length = true then C i else 0) = 0 := by
        split
        · omega
        · rfl
      rw [e, e2, Nat.add_zero] at t
      exact t
    · obtain ⟨h, l, p1, p2, p3, p4, p5⟩ := hpt i hi
      have hl := zq_vd_len l h p2 p4
      have h9 : (pth i).length ≤ 9 := by
        rw [p1]
        show l.length + 1 ≤ 9
        omega
      have d9 : ∀ c, c ∈ pth i → c < 9 := by
        rw [p1]
        exact zq_pt_9 p2 p4
      dsimp only
      refine zw_inList (p := zq_at (pth i)) h9 hb (fun j hj => ⟨q j hj, zq_at_9 d9 hj⟩) ?_
      have t := t (nI (pth i).length) a6'
      cases g2 : zq_fn (zq_at (pth i)) b (pth i).length with
      | true =>
        rw [e, g2, if_pos rfl] at t
        refine br_f (show ¬ (1 : Int32) = 0 by decide) ⟨pk_in i 160 (by omega), nm_r (e' := nI (zq_V pth C i b + C i)) ?_ (nm_r (nI_1 i) t)⟩
        rw [(hC i hi).1, nI_add]
      | false =>
        rw [e, g2, if_neg Bool.false_ne_true, Nat.add_zero] at t
        exact br_t rfl (nm_r (nI_1 i) t)
theorem zw_arc {post : Int32 → St1 → Prop} {op sz : Int32} {a1 a2 a3 a4 a5 a6 a7 : Nat → Int32} {f s w : Nat → Nat} {H : Nat → Bool} {pth : Nat → List Nat} {C : Nat → Nat} {b c : Nat} (hb : b < 9) (hc9 : c < 9) (hP : zq_hs H w 9 ≤ 142) (hN : zq_N f s w H (nI (zq_hs H w 9)) a1 a2 a3 a4) (hpt : zq_pt f s w H pth) (hC : zq_C C (zq_hs H w 9) a5)
    (HP : ∀ z a6', post (nI (zq_R pth C (zq_hs H w 9) b c)) (1, nI (zq_hs H w 9), op, z, a1, a2, a3, a4, a5, a6', a7)) : wpX_arc post (1, nI (zq_hs H w 9), op, sz, a1, a2, a3, a4, a5, a6, a7) (nI b) (nI c) := by
  unfold wpX_arc
  dsimp only
  refine zw_num1 ?_
  dsimp only
  refine pk_loop (σ := Int32 × (Nat → Int32)) (fun n i y => wX_arc_9 post (nI b) (nI c) n (nI (zq_R pth C i b c)) (nI i) 1 (nI (zq_hs H w 9)) op y.1 a1 a2 a3 a4 a5 y.2 a7) (fun _ _ => True) (zq_hs H w 9) 0 (sz, a6) (Nat.zero_le _) trivial ?_ ?_
  · intro n y _
    exact pk_le (zq_hs H w 9) (zq_hs H w 9) (fun _ => HP _ _) (fun z => absurd z (by omega))
  · intro n i y hi _ hw
    obtain ⟨y1, y2⟩ := y
    have hc := (hC i hi).2
    have t : ∀ z a6', wX_arc_9 post (nI b) (nI c) n (nI (zq_R pth C (i + 1) b c)) (nI (i + 1)) 1 (nI (zq_hs H w 9)) op z a1 a2 a3 a4 a5 a6' a7 := fun z a6' => hw (z, a6') trivial
    have e : zq_R pth C (i + 1) b c = zq_R pth C i b c + (if zq_ar (zq_at (pth i)) b c ((pth i).length - 1) = true then C i else 0) := rfl
    refine pk_le (zq_hs H w 9) i (fun z => absurd z (by omega)) (fun _ => ⟨pk_in i 160 (by omega), ?_⟩)
    dsimp only
    rw [nI_clamp (show i < 2 ^ 31 by omega)]
    refine pk_le (C i) 0 (fun g => nm_r (nI_1 i) ?_) (fun g => zw_spread hN hpt hi (fun a6' q => ?_)) (hx := (hC i hi).1)
    · have t := t y1 y2
      have e2 : (if zq_ar (zq_at (pth i)) b c ((pth i).length - 1) = true then C i else 0) = 0 := by
        split
        · omega
        · rfl
      rw [e, e2, Nat.add_zero] at t
      exact t
    · obtain ⟨h, l, p1, p2, p3, p4, p5⟩ := hpt i hi
      have hl := zq_vd_len l h p2 p4
      have d9 : ∀ c, c ∈ pth i → c < 9 := by
        rw [p1]
        exact zq_pt_9 p2 p4
      have en : (pth i).length = l.length + 1 := by
        rw [p1]
        rfl
      have en1 : (pth i).length - 1 = l.length := by omega
      have t := t (nI (pth i).length) a6'
      rw [en] at t q ⊢
      dsimp only
      refine zw_hasArc (p := zq_at (pth i)) (by omega) hb hc9 (fun j hj => ⟨q j hj, zq_at_9 d9 (by omega)⟩) ?_
      rw [en1] at e
      cases g2 : zq_ar (zq_at (pth i)) b c l.length with
      | true =>
        rw [e, g2, if_pos rfl] at t
        refine br_f (show ¬ (1 : Int32) = 0 by decide) ⟨pk_in i 160 (by omega), nm_r (e' := nI (zq_R pth C i b c + C i)) ?_ (nm_r (nI_1 i) t)⟩
        rw [(hC i hi).1, nI_add]
      | false =>
        rw [e, g2, if_neg Bool.false_ne_true, Nat.add_zero] at t
        exact br_t rfl (nm_r (nI_1 i) t)
end
section
/-! runs: counts stay small, numbers stay below the number of paths -/
def zq_K (M : Nat) (a5 : Nat → Int32) : Prop := ∃ C : Nat → Nat, ∀ k, k < 160 → a5 k = nI (C k) ∧ C k ≤ M
theorem zq_K_m {M N : Nat} {a5 : Nat → Int32} (h : zq_K M a5) (hm : M ≤ N) : zq_K N a5 := by
  obtain ⟨C, hC⟩ := h
  exact ⟨C, fun k hk => ⟨(hC k hk).1, Nat.le_trans (hC k hk).2 hm⟩⟩
theorem zq_K_u {M n : Nat} {a5 : Nat → Int32} (h : zq_K M a5) (hn : n < 160) : zq_K (M + 1) (upd a5 n (a5 n + 1)) := by
  obtain ⟨C, hC⟩ := h
  refine ⟨fun k => if k = n then C n + 1 else C k, fun k hk => ?_⟩
  dsimp only
  by_cases e : k = n
  · rw [if_pos e, e, pk_us, (hC n hn).1, nI_1]
    exact ⟨rfl, Nat.succ_le_succ (hC n hn).2⟩
  · rw [if_neg e, pk_un e]
    exact ⟨(hC k hk).1, Nat.le_succ_of_le (hC k hk).2⟩
theorem zw_r212 {post : Int32 → St1 → Prop} {x7 nu pa op sz : Int32} {a1 a2 a3 a4 a5 a6 a7 : Nat → Int32} {b n M : Nat} (hb : b < 9) (hn : n < 160) (hK : zq_K M a5)
    (HP : ∀ r op' a5', zq_K (M + 1) a5' → post r (nu, pa, op', sz, a1, a2, a3, a4, a5', a6, a7)) : wX_run_212 post (nI b) (nI n) x7 nu pa op sz a1 a2 a3 a4 a5 a6 a7 := by
  unfold wX_run_212
  rw [nI_clamp (show n < 2 ^ 31 by omega)]
  exact ⟨pk_in b 9 hb, br_c (fun _ => nm_e (HP _ _ _ (zq_K_m hK (Nat.le_succ M)))) (fun _ => ⟨pk_in n 160 hn, pk_in n 160 hn, nm_e (HP _ _ _ (zq_K_u hK hn))⟩)⟩
theorem zw_r187 {post : Int32 → St1 → Prop} {J : Int32 → Int32 → Int32 → Int32 → Int32 → Int32 → Int32 → (Nat → Int32) → (Nat → Int32) → (Nat → Int32) → (Nat → Int32) → (Nat → Int32) → (Nat → Int32) → (Nat → Int32) → Prop} {x4 x5 x6 x7 nu pa op sz : Int32} {a1 a2 a3 a4 a5 a6 a7 : Nat → Int32} {f : Nat → Nat} {c i : Nat} (hc : c < 9) (hf : zq_A f a1) (hf9 : f c ≤ 9)
    (hJ : ∀ x8, (x8 = 0 ∨ (x8 = 1 ∧ 1 ≤ f c)) → J (nI c) x4 x5 x6 x7 x8 (nI (i + 1)) a1 a2 a3 a4 a5 a6 a7) : wX_run_187 post J x4 x5 x6 x7 (nI i) (nI c) nu pa op sz a1 a2 a3 a4 a5 a6 a7 := by
  unfold wX_run_187
  rw [nI_clamp (show c < 2 ^ 31 by omega), hf c hc]
  refine ⟨pk_in c 9 hc, br_c (fun _ => nm_r (nI_1 i) (hJ 0 (Or.inl rfl))) (fun h => nm_r (nI_1 i) (hJ 1 (Or.inr ⟨rfl, ?_⟩)))⟩
  have q : ¬ f c = 0 := fun z => h ((zq_dI_neg hf9).mpr z)
  omega
theorem zw_r129 {post : Int32 → St1 → Prop} {J : Int32 → Int32 → Int32 → Int32 → Int32 → Int32 → Int32 → (Nat → Int32) → (Nat → Int32) → (Nat → Int32) → (Nat → Int32) → (Nat → Int32) → (Nat → Int32) → (Nat → Int32) → Prop} {x5 x6 x7 x8 nu pa op sz : Int32} {a1 a2 a3 a4 a5 a6 a7 : Nat → Int32} {f s w : Nat → Nat} {H : Nat → Bool} {b v n i M : Nat}
    (hN : zq_N f s w H pa a1 a2 a3 a4) (hb : b < 9) (hv : v = f b ∨ v = s b) (hv1 : 1 ≤ v) (hn : n + w b ≤ zq_hs H w 9) (hK : zq_K M a5) (h8 : x8 = 0 ∨ x8 = 1)
    (J0 : J (nI b) (nI n) x5 x6 x7 0 (nI (i + 1)) a1 a2 a3 a4 a5 a6 a7)
    (J1 : ∀ c n' x8' a5', c < 9 → n' + w c ≤ zq_hs H w 9 → (x8' = 0 ∨ (x8' = 1 ∧ 1 ≤ f c)) → zq_K (M + 1) a5' → J (nI c) (nI n') x5 x6 (x7 + 1) x8' (nI (i + 1)) a1 a2 a3 a4 a5' a6 a7) :
    wX_run_129 post J (nI b) (nI n) x5 x6 x7 x8 (nI i) (zq_dI v) nu pa op sz a1 a2 a3 a4 a5 a6 a7 := by
  obtain ⟨hwf, hf, hs, hwe, n1, n2, n3, h3, h4, hpa⟩ := hN
  obtain ⟨w1, w2, w3, w4⟩ := hwf b hb
  have B := zq_bnd hwf hwe
  have B9 : zq_hs H w 9 ≤ 142 := zq_hs9 (fun b hb => (B b (Nat.zero_le b) hb).2)
  have Bb := (B b (Nat.zero_le b) hb).1
  have v9 : v ≤ 9 := by
    rcases hv with q | q <;> omega
  unfold wX_run_129
  rcases h8 with rfl | rfl
  · exact br_t rfl (nm_r (nI_1 i) J0)
  · refine br_f (by decide) (nm_e (zw_back hb v9 (fun k => br_f (by decide) ?_) (fun k => br_t rfl ?_)))
    · rw [zq_dI_p hv1, nI_clamp (show n < 2 ^ 31 by omega), nI_clamp (show v - 1 < 2 ^ 31 by omega)]
      have c9 : v - 1 < 9 := by omega
      have hH : H (v - 1) = true := by
        rcases hv with q | q
        · rw [q]
          exact n2 b hb (by omega) (by omega)
        · rw [q]
          exact n3 b hb (by omega) (by omega)
      have hm : zq_hs H w (v - 1 + 1) ≤ zq_hs H w 9 := zq_hs_m (by omega)
      rw [zq_hs_s hH] at hm
      refine ⟨pk_in n 160 (by omega), pk_in n 160 (by omega), nm_e ⟨pk_in (v - 1) 9 c9, nm_r (e' := nI (zq_hs H w (v - 1))) (by rw [h4 (v - 1) c9, if_pos hH]) ?_⟩⟩
      exact zw_r187 c9 hf (hwf (v - 1) c9).1 (fun x8 q => J1 (v - 1) (zq_hs H w (v - 1)) x8 _ c9 hm q (zq_K_u hK (by omega)))
    · have c9 : v - 1 < 9 := by omega
      have bv : b < v - 1 := by omega
      have hl : f b = v - 1 + 1 ∨ s b = v - 1 + 1 := by
        rcases hv with q | q
        · exact Or.inl (by omega)
        · exact Or.inr (by omega)
      have hle := zq_ad_le hb hwe bv hl
      rw [zq_dI_p hv1]
      refine zw_added (w := w) hb c9 hwf hf hs h3 (nm_r (nI_add n _) ?_)
      exact zw_r187 c9 hf (hwf (v - 1) c9).1 (fun x8 q => J1 (v - 1) _ x8 _ c9 (by omega) q (zq_K_m hK (Nat.le_succ M)))
theorem zw_run {post : Int32 → St1 → Prop} {nu pa op sz x : Int32} {a1 a2 a3 a4 a5 a6 a7 : Nat → Int32} {f s : Nat → Nat} {m M : Nat} (hm : m < 16) (hwf : zq_wf f s) (hf : zq_A f a1) (hs : zq_A s a2) (hn : nu = 0 ∨ (nu = 1 ∧ ∃ w H, zq_nf f s w H pa a3 a4)) (hK : zq_K M a5)
    (HP : ∀ r w H pa' op' a3' a4' a5', zq_nf f s w H pa' a3' a4' → zq_K (M + 41) a5' → post r (1, pa', op', sz, a1, a2, a3', a4', a5', a6, a7)) :
    wpX_run post (nu, pa, op, sz, a1, a2, a3, a4, a5, a6, a7) x (nI m) := by
  unfold wpX_run
  dsimp only
  refine br_f (nI_pos (by omega)) (pk_le m 24 (fun _ => zw_number hwf hf hs hn (fun w H pa' a3' a4' q => ?_)) (fun z => absurd z (by omega)))
  dsimp only
  have hN : zq_N f s w H pa' a1 a2 a3' a4' := ⟨hwf, hf, hs, q⟩
  obtain ⟨hwe, n1, n2, n3, h3, h4, hpa⟩ := q
  have B := zq_bnd hwf hwe
  have B9 : zq_hs H w 9 ≤ 142 := zq_hs9 (fun b hb => (B b (Nat.zero_le b) hb).2)
  have L : ∀ x8 : Int32, (x8 = 0 ∨ (x8 = 1 ∧ 1 ≤ f 0)) → ∃ fu, wX_run_54 post 1 pa' op sz fu 0 (nI 0) (nI m) x 0 x8 0 a1 a2 a3' a4' a5 a6 a7 := by
    intro x8 h8
    refine pk_loop (σ := Nat × Nat × Int32 × Int32 × Int32 × Int32 × (Nat → Int32)) (fun n i y => wX_run_54 post 1 pa' op sz n (nI y.1) (nI y.2.1) y.2.2.1 y.2.2.2.1 y.2.2.2.2.1 y.2.2.2.2.2.1 (nI i) a1 a2 a3' a4' y.2.2.2.2.2.2 a6 a7)
      (fun i y => y.1 < 9 ∧ y.2.1 + w y.1 ≤ zq_hs H w 9 ∧ (y.2.2.2.2.2.1 = 0 ∨ (y.2.2.2.2.2.1 = 1 ∧ 1 ≤ f y.1)) ∧ zq_K (M + i) y.2.2.2.2.2.2) 40 0 (0, 0, nI m, x, 0, x8, a5) (by omega) ⟨by show 0 < 9; omega, ?_, h8, hK⟩ ?_ ?_
    · show 0 + w 0 ≤ zq_hs H w 9
      have hm : zq_hs H w (0 + 1) ≤ zq_hs H w 9 := zq_hs_m (by omega)
      rw [zq_hs_s n1] at hm
      exact hm
    · intro n y q
      obtain ⟨b, k, x5, x6, x7, x8, y5⟩ := y
      obtain ⟨q1, q2, q3, q4⟩ := q
      dsimp only at q1 q2 q3 q4 ⊢
      have Bb := (B b (Nat.zero_le b) q1).1
      exact pk_le 40 40 (fun _ => zw_r212 q1 (by omega) q4 (fun r op' a5' hk => HP r w H pa' op' a3' a4' a5' ⟨hwe, n1, n2, n3, h3, h4, hpa⟩ hk)) (fun z => absurd z (by omega))
    · intro n i y hi q hw
      obtain ⟨b, k, x5, x6, x7, x8, y5⟩ := y
      obtain ⟨q1, q2, q3, q4⟩ := q
      dsimp only at q1 q2 q3 q4 ⊢
      have Bb := (B b (Nat.zero_le b) q1).1
      obtain ⟨w1, w2, w3, w4⟩ := hwf b q1
      refine pk_le 40 i (fun z => absurd z (by omega)) (fun _ => ?_)
      rcases q3 with rfl | ⟨rfl, q3⟩
      · exact br_t rfl (zw_r212 q1 (by omega) q4 (fun r op' a5' hk => HP r w H pa' op' a3' a4' a5' ⟨hwe, n1, n2, n3, h3, h4, hpa⟩ (zq_K_m hk (by omega))))
      · have R : ∀ (x5 x6 z0 : Int32) (v : Nat), (z0 = 0 ∨ z0 = 1) → (v = f b ∨ v = s b) → 1 ≤ v → wX_run_129 post (wX_run_54 post 1 pa' op sz n) (nI b) (nI k) x5 x6 x7 z0 (nI i) (zq_dI v) 1 pa' op sz a1 a2 a3' a4' y5 a6 a7 := by
          intro x5 x6 z0 v h8 hv hv1
          refine zw_r129 hN q1 hv hv1 q2 q4 h8 (hw (b, k, x5, x6, x7, 0, y5) ⟨q1, q2, Or.inl rfl, zq_K_m q4 (by omega)⟩) (fun c n' x8' a5' r1 r2 r3 r4 => hw (c, n', x5, x6, x7 + 1, x8', a5') ⟨r1, r2, r3, r4⟩)
        refine br_f (by decide) ⟨pk_in b 9 q1, nm_e ⟨pk_in b 9 q1, ?_⟩⟩
        rw [nI_clamp (show b < 2 ^ 31 by omega), hf b q1, hs b q1]
        have R93 : ∀ z0 : Int32, 1 ≤ s b → (z0 = 0 ∨ z0 = 1) → wX_run_93 post (wX_run_54 post 1 pa' op sz n) (nI b) (nI k) x5 x6 x7 (nI i) z0 1 pa' op sz a1 a2 a3' a4' y5 a6 a7 := by
          intro z0 hs1 h8
          unfold wX_run_93
          rw [nI_clamp (show b < 2 ^ 31 by omega), hf b q1, hs b q1]
          unfold wX_run_118
          exact br_c (fun _ => ⟨pk_in b 9 q1, nm_e (nm_e (R _ _ z0 (s b) h8 (Or.inr rfl) hs1))⟩) (fun _ => ⟨pk_in b 9 q1, nm_e (nm_e (R _ _ z0 (f b) h8 (Or.inl rfl) q3))⟩)
        refine br_c (fun _ => R x5 x6 1 (f b) (Or.inr rfl) (Or.inl rfl) q3) (fun h => ?_)
        have hs1 : 1 ≤ s b := by
          have q : ¬ s b = 0 := fun z => h ((zq_dI_neg w2).mpr z)
          omega
        exact br_c (fun _ => R93 0 hs1 (Or.inl rfl)) (fun _ => R93 1 hs1 (Or.inr rfl))
  have e0 : a4' 0 = nI 0 := by
    rw [h4 0 (by omega), if_pos n1]
    rfl
  refine nm_r e0 ?_
  have e1 : a1 0 = zq_dI (f 0) := hf 0 (by omega)
  have f9 := (hwf 0 (by omega)).1
  rw [e1]
  refine br_c (fun _ => L 0 (Or.inl rfl)) (fun h => L 1 (Or.inr ⟨rfl, ?_⟩))
  have q : ¬ f 0 = 0 := fun z => h ((zq_dI_neg f9).mpr z)
  omega
end
section
/-! lead -/
def zq_up (f : Nat → Nat) (b c : Nat) : Nat → Nat := fun j => if j = b then c else f j
theorem zq_up_s {f : Nat → Nat} {b c : Nat} : zq_up f b c b = c := if_pos rfl
theorem zq_up_n {f : Nat → Nat} {b c j : Nat} (h : j ≠ b) : zq_up f b c j = f j := if_neg h
theorem zq_up_i {f : Nat → Nat} {b c : Nat} (h : f b = c) : zq_up f b c = f := by
  funext j
  by_cases e : j = b
  · rw [e, zq_up_s, h]
  · rw [zq_up_n e]
theorem zq_up_A {f : Nat → Nat} {a : Nat → Int32} {b c : Nat} (h : zq_A f a) : zq_A (zq_up f b c) (upd a b (zq_dI c)) := by
  intro j hj
  by_cases e : j = b
  · rw [e, zq_up_s, pk_us]
  · rw [zq_up_n e, pk_un e]
    exact h j hj
theorem zq_up_wf {f s : Nat → Nat} {b c d : Nat} (h : zq_wf f s) (hc : c ≤ 9) (hd : d ≤ 9) (h1 : c = d → c = 0) (h2 : c = 0 → d = 0) : zq_wf (zq_up f b c) (zq_up s b d) := by
  intro j hj
  by_cases e : j = b
  · rw [e, zq_up_s, zq_up_s]
    exact ⟨hc, hd, h1, h2⟩
  · rw [zq_up_n e, zq_up_n e]
    exact h j hj
/-- a state between two calls -/
def zq_St (f s : Nat → Nat) (M : Nat) (nu pa : Int32) (a1 a2 a3 a4 a5 : Nat → Int32) : Prop := zq_wf f s ∧ zq_A f a1 ∧ zq_A s a2 ∧ (nu = 0 ∨ (nu = 1 ∧ ∃ w H, zq_nf f s w H pa a3 a4)) ∧ zq_K M a5
theorem zw_succ {post : Int32 → Prop} {nu pa op sz : Int32} {a1 a2 a3 a4 a5 a6 a7 : Nat → Int32} {b : Nat} (hb : b < 9) (HP : ∀ q : Nat, q ≤ 2 → post (nI q)) : wpX_successors post (nu, pa, op, sz, a1, a2, a3, a4, a5, a6, a7) (nI b) := by
  unfold wpX_successors
  dsimp only
  exact zw_bad hb (br_t rfl ⟨pk_in b 9 hb, br_c (fun _ => ⟨pk_in b 9 hb, br_c (fun _ => HP 2 (by omega)) (fun _ => HP 1 (by omega))⟩) (fun _ => HP 0 (by omega))⟩)
theorem zw_l78 {post : Int32 → St1 → Prop} {x4 nu pa op sz : Int32} {a1 a2 a3 a4 a5 a6 a7 : Nat → Int32} {b c d : Nat} (hb : b < 9)
    (HP : ∀ a5', zq_K 0 a5' → post x4 (0, pa, 0, sz, upd a1 b (zq_dI c), upd a2 b (zq_dI d), a3, a4, a5', a6, a7)) : wX_lead_78 post (nI b) (zq_dI c) (zq_dI d) x4 nu pa op sz a1 a2 a3 a4 a5 a6 a7 := by
  unfold wX_lead_78
  rw [nI_clamp (show b < 2 ^ 31 by omega)]
  refine ⟨pk_in b 9 hb, nm_e ⟨pk_in b 9 hb, nm_e ?_⟩⟩
  refine pk_loop (fun n i y => wX_lead_105 post x4 0 pa 0 sz n (nI i) (upd a1 b (zq_dI c)) (upd a2 b (zq_dI d)) a3 a4 y a6 a7) (fun i y => ∀ k, k < i → y k = 0) 160 0 a5 (by omega) (fun k hk => absurd hk (Nat.not_lt_zero k)) ?_ ?_
  · intro n y q
    exact pk_le 160 160 (fun _ => HP y ⟨fun _ => 0, fun k hk => ⟨q k hk, Nat.le_refl 0⟩⟩) (fun z => absurd z (by omega))
  · intro n i y hi q hw
    refine pk_le 160 i (fun z => absurd z (by omega)) (fun _ => ⟨pk_in i 160 hi, nm_e (nm_r (nI_1 i) (hw _ (fun k hk => ?_)))⟩)
    rw [nI_clamp (show i < 2 ^ 31 by omega)]
    by_cases e : k = i
    · rw [e, pk_us]
    · rw [pk_un e]
      exact q k (by omega)
theorem zq_m1t : (-1 : Int32).toInt = -1 := by decide
theorem zw_lead {post : Int32 → St1 → Prop} {nu pa op sz : Int32} {a1 a2 a3 a4 a5 a6 a7 : Nat → Int32} {f s : Nat → Nat} {b c d M : Nat} (hb : b < 9) (hc : c ≤ 9) (hd : d ≤ 9) (hS : zq_St f s M nu pa a1 a2 a3 a4 a5)
    (HB : post (-1) (nu, pa, op, sz, a1, a2, a3, a4, a5, a6, a7))
    (HG : ∀ q nu' op' a1' a2' a5', q ≤ 2 → zq_St (zq_up f b c) (zq_up s b d) M nu' pa a1' a2' a3 a4 a5' → post (nI q) (nu', pa, op', sz, a1', a2', a3, a4, a5', a6, a7)) :
    wpX_lead post (nu, pa, op, sz, a1, a2, a3, a4, a5, a6, a7) (nI b) (zq_dI c) (zq_dI d) := by
  have hS' := hS
  obtain ⟨hwf, hf, hs, hn, hK⟩ := hS'
  obtain ⟨w1, w2, w3, w4⟩ := hwf b hb
  have L51 : (c = d → c = 0) → (c = 0 → d = 0) → wX_lead_51 post (nI b) (zq_dI c) (zq_dI d) nu pa op sz a1 a2 a3 a4 a5 a6 a7 := by
    intro h1 h2
    unfold wX_lead_51
    refine zw_succ hb (fun q hq => ⟨pk_in b 9 hb, ?_⟩)
    rw [nI_clamp (show b < 2 ^ 31 by omega), hf b hb, hs b hb]
    have L78 : wX_lead_78 post (nI b) (zq_dI c) (zq_dI d) (nI q) nu pa op sz a1 a2 a3 a4 a5 a6 a7 := by
      refine zw_l78 hb (fun a5' hk => HG q 0 0 _ _ a5' hq ⟨zq_up_wf hwf hc hd h1 h2, zq_up_A hf, zq_up_A hs, Or.inl rfl, zq_K_m hk (Nat.zero_le M)⟩)
    refine br_c (fun e1 => ⟨pk_in b 9 hb, br_c (fun e2 => ?_) (fun _ => L78)⟩) (fun _ => L78)
    refine HG q nu op a1 a2 a5 hq ?_
    rw [zq_up_i ((zq_dI_eq w1 hc).mp e1), zq_up_i ((zq_dI_eq w2 hd).mp e2)]
    exact hS
  have L41 : (c = d → c = 0) → wX_lead_41 post (nI b) (zq_dI c) (zq_dI d) nu pa op sz a1 a2 a3 a4 a5 a6 a7 := by
    intro h1
    unfold wX_lead_41
    refine br_c (fun z => L51 h1 (fun y => ?_)) (fun z => br_c (fun y => L51 h1 (fun _ => (zq_dI_neg hd).mp y)) (fun _ => HB))
    have := (zq_dI_ge0 hc).mp z
    omega
  have n1 : ∀ v, v ≤ 9 → ¬ zq_dI v < -1 := by
    intro v hv
    rw [Int32.lt_iff_toInt_lt, zq_dI_t hv, zq_m1t]
    omega
  have n9 : (9 : Int32).toInt = 9 := by decide
  unfold wpX_lead
  dsimp only
  refine zw_bad hb (br_t rfl (br_f (n1 c hc) (br_f ?_ (br_f (n1 d hd) (br_t ?_ (br_c (fun e => br_c (fun _ => HB) (fun z => L41 (fun _ => ?_))) (fun e => L41 (fun y => ?_))))))))
  · rw [Int32.le_iff_toInt_le, zq_dI_t hc, n9]
    omega
  · rw [Int32.lt_iff_toInt_lt, zq_dI_t hd, n9]
    omega
  · have q : ¬ 1 ≤ c := fun y => z ((zq_dI_ge0 hc).mpr y)
    omega
  · exact absurd (by rw [y]) e
end
section
/-! four bits a block -/
def zq_rd (x : Int64) (b : Nat) : Int32 := ((x >>> ((4 * nI b).toInt64 &&& 63)) &&& 15).toInt32
def zq_pu (x : Int64) (b : Nat) (z : Int32) : Int64 := (x &&& (((15 : Int64) <<< ((4 * nI b).toInt64 &&& 63)) ^^^ (-1))) ||| (z.toInt64 <<< ((4 * nI b).toInt64 &&& 63))
theorem zq_sh : ∀ b, b < 9 → (((4 * nI b).toInt64 &&& 63).toBitVec.smod 64).toNat = 4 * b := by decide +kernel
theorem zq_b15 : ∀ j, j < 64 → (15 : Int64).toBitVec.getLsbD j = decide (j < 4) := by decide +kernel
theorem zq_bm1 : ∀ j, j < 64 → (-1 : Int64).toBitVec.getLsbD j = true := by decide +kernel
theorem zq_bv : ∀ v, v < 16 → ∀ j, j < 64 → 4 ≤ j → (lN v).toBitVec.getLsbD j = false := by decide +kernel
theorem zq_rb (x : Int64) {c : Nat} (hc : c < 9) {i : Nat} (hi : i < 64) : ((x >>> ((4 * nI c).toInt64 &&& 63)) &&& 15).toBitVec.getLsbD i = (decide (i < 4) && x.toBitVec.getLsbD (4 * c + i)) := by
  rw [Int64.toBitVec_and, BitVec.getLsbD_and, zq_b15 i hi, Int64.toBitVec_shiftRight, BitVec.getLsbD_sshiftRight', zq_sh c hc]
  by_cases h : i < 4
  · rw [if_pos (by omega), decide_eq_true h, decide_eq_false (by omega : ¬ 64 ≤ i), Bool.not_false, Bool.true_and, Bool.and_true]
  · rw [decide_eq_false h, Bool.and_false, Bool.false_and]
theorem zq_pb (x : Int64) {b v j : Nat} (hb : b < 9) (hv : v < 16) (hj : j < 64) : (zq_pu x b (nI v)).toBitVec.getLsbD j = if 4 * b ≤ j ∧ j < 4 * b + 4 then (lN v).toBitVec.getLsbD (j - 4 * b) else x.toBitVec.getLsbD j := by
  unfold zq_pu
  rw [nI_l (by omega), Int64.toBitVec_or, BitVec.getLsbD_or, Int64.toBitVec_and, BitVec.getLsbD_and, Int64.toBitVec_xor, BitVec.getLsbD_xor, Int64.toBitVec_shiftLeft, Int64.toBitVec_shiftLeft, BitVec.getLsbD_shiftLeft', BitVec.getLsbD_shiftLeft', zq_sh b hb, zq_bm1 j hj, zq_b15 (j - 4 * b) (by omega), decide_eq_true hj]
  by_cases h1 : j < 4 * b
  · rw [if_neg (by omega), decide_eq_true h1]
    simp
  · rw [decide_eq_false h1]
    by_cases h2 : j - 4 * b < 4
    · rw [if_pos (by omega), decide_eq_true h2]
      simp
    · rw [if_neg (by omega), decide_eq_false h2, zq_bv v hv (j - 4 * b) (by omega) (by omega)]
      simp
theorem zq_rd_o (x : Int64) {b c v : Nat} (hb : b < 9) (hc : c < 9) (hv : v < 16) (h : c ≠ b) : zq_rd (zq_pu x b (nI v)) c = zq_rd x c := by
  unfold zq_rd
  refine congrArg Int64.toInt32 (Int64.toBitVec_inj.mp (BitVec.eq_of_getLsbD_eq (fun i hi => ?_)))
  rw [zq_rb _ hc hi, zq_rb _ hc hi]
  by_cases h4 : i < 4
  · rw [zq_pb x hb hv (by omega), if_neg (by omega)]
  · rw [decide_eq_false h4, Bool.false_and, Bool.false_and]
theorem zq_rd_s (x : Int64) {b v : Nat} (hb : b < 9) (hv : v < 16) : zq_rd (zq_pu x b (nI v)) b = nI v := by
  unfold zq_rd
  refine Eq.trans (congrArg Int64.toInt32 (Int64.toBitVec_inj.mp (BitVec.eq_of_getLsbD_eq (fun i hi => ?_)))) (lN_i v)
  rw [zq_rb _ hb hi]
  by_cases h4 : i < 4
  · rw [zq_pb x hb hv (by omega), if_pos (by omega), decide_eq_true h4, Bool.true_and, Nat.add_sub_cancel_left]
  · rw [decide_eq_false h4, Bool.false_and, zq_bv v hv i hi (by omega)]
/-- the law's own record of the arcs -/
def zq_G (x : Int64) (f : Nat → Nat) : Prop := ∀ b, b < 9 → zq_rd x b = nI (f b)
theorem zq_G_u {x : Int64} {f : Nat → Nat} {b v : Nat} (h : zq_G x f) (hb : b < 9) (hv : v < 16) : zq_G (zq_pu x b (nI v)) (zq_up f b v) := by
  intro c hc
  by_cases e : c = b
  · rw [e, zq_rd_s x hb hv, zq_up_s]
  · rw [zq_rd_o x hb hc hv e, zq_up_n e]
    exact h c hc
theorem zq_G_0 : zq_G 0 (fun _ => 0) := by
  have h : ∀ b, b < 9 → zq_rd 0 b = nI 0 := by decide +kernel
  exact h
theorem zq_G_d {x : Int64} {f : Nat → Nat} {b : Nat} (h : zq_G x f) (hb : b < 9) (hf : f b ≤ 9) : zq_rd x b - 1 = zq_dI (f b) := by
  rw [h b hb]
  cases e : f b with
  | zero => decide
  | succ n => exact nI_pred n
/-! what a turn reads out of its second int -/
theorem zq_dec (x : Int32) : ∃ b c d g : Nat, b < 9 ∧ c < 9 ∧ d < 9 ∧ 1 ≤ g ∧ g ≤ 12 ∧ (x &&& 15) - (x &&& 15) / 9 * 9 = nI b ∧ ((x >>> ((4 : Int32) &&& 31)) &&& 15) - ((x >>> ((4 : Int32) &&& 31)) &&& 15) / 9 * 9 = nI c ∧ ((x >>> ((8 : Int32) &&& 31)) &&& 15) - ((x >>> ((8 : Int32) &&& 31)) &&& 15) / 9 * 9 = nI d ∧ (nI b + 1) + ((x >>> ((4 : Int32) &&& 31)) &&& 3) = nI g := by
  have key : ∀ y : Int32, ∃ b, b < 9 ∧ (y &&& 15) - (y &&& 15) / 9 * 9 = nI b := by
    intro y
    obtain ⟨j, j1, j2⟩ := pk_andE y (m := 15) 4 (by decide)
    refine ⟨j % 9, Nat.mod_lt _ (by decide), ?_⟩
    rw [j2]
    exact pk_rem (d := 9) (by omega) (by decide) (by decide)
  obtain ⟨b, b1, b2⟩ := key x
  obtain ⟨c, c1, c2⟩ := key (x >>> ((4 : Int32) &&& 31))
  obtain ⟨d, d1, d2⟩ := key (x >>> ((8 : Int32) &&& 31))
  obtain ⟨t, t1, t2⟩ := pk_andE (x >>> ((4 : Int32) &&& 31)) (m := 3) 2 (by decide)
  refine ⟨b, c, d, b + 1 + t, b1, c1, d1, by omega, by omega, b2, c2, d2, ?_⟩
  rw [t2, nI_1, nI_add]
end
section
/-! the law's end: its checks -/
theorem zw_l486 {post : Int32 → Prop} {L : Nat} {xs : Nat → Int32} {J : Int32 → Int32 → Int32 → Int32 → Int32 → (Nat → Int32) → (Nat → Int32) → (Nat → Int32) → (Nat → Int32) → (Nat → Int32) → (Nat → Int32) → (Nat → Int32) → Prop} {x2 x4 : Int64} {x12 z0 nu pa op sz : Int32} {a1 a2 a3 a4 a5 a6 a7 : Nat → Int32} {kc ks b V A G : Nat} (hA : A ≤ V) (ho : z0 = 0 → A = V) (hG : V ≤ G) (hb : G < 2 ^ 31)
    (hJ : J (nI (b + 1)) nu pa op sz a1 a2 a3 a4 a5 a6 a7) : wL_law_486 post L xs J x2 x4 (nI G) (nI b) x12 (nI V) (nI A) z0 kc ks nu pa op sz a1 a2 a3 a4 a5 a6 a7 := by
  have L507 : wL_law_507 post L xs J x2 x4 (nI G) (nI b) x12 (nI V) kc ks nu pa op sz a1 a2 a3 a4 a5 a6 a7 := by
    unfold wL_law_507
    exact br_c (fun _ => nm_r (nI_1 b) hJ) (fun _ => pk_le V G (fun _ => nm_r (nI_1 b) hJ) (fun z => absurd z (by omega)))
  unfold wL_law_486
  exact pk_lt V A (fun z => absurd z (by omega)) (fun _ => br_c (fun z => pk_eq A V (fun _ => L507) (fun y => absurd (ho z) y)) (fun _ => L507))
theorem zw_l431 {post : Int32 → Prop} {L : Nat} {xs : Nat → Int32} {J : Int32 → Int32 → Int32 → Int32 → Int32 → (Nat → Int32) → (Nat → Int32) → (Nat → Int32) → (Nat → Int32) → (Nat → Int32) → (Nat → Int32) → (Nat → Int32) → Prop} {x2 x4 : Int64} {op sz : Int32} {a1 a2 a3 a4 a5 a6 a7 : Nat → Int32} {kc ks : Nat} {f s w : Nat → Nat} {H : Nat → Bool} {pth : Nat → List Nat} {C : Nat → Nat} {b : Nat} (hb : b < 9) (hP : zq_hs H w 9 ≤ 142) (hN : zq_N f s w H (nI (zq_hs H w 9)) a1 a2 a3 a4) (hpt : zq_pt f s w H pth) (hC : zq_C C (zq_hs H w 9) a5) (hG : zq_sm C (zq_hs H w 9) < 2 ^ 31)
    (hJ : ∀ z a6', J (nI (b + 1)) 1 (nI (zq_hs H w 9)) op z a1 a2 a3 a4 a5 a6' a7) :
    ∃ n, wL_law_431 post L xs J x2 x4 (nI (zq_sm C (zq_hs H w 9))) (nI b) (zq_dI (f b)) (zq_dI (s b)) (nI (zq_V pth C (zq_hs H w 9) b)) kc ks n 0 0 1 (nI (zq_hs H w 9)) op sz a1 a2 a3 a4 a5 a6 a7 := by
  obtain ⟨w1, w2, w3, w4⟩ := hN.1 b hb
  have q1 := zq_RV hpt C b
  have q2 := zq_V_le pth C (zq_hs H w 9) b
  refine pk_loop (σ := Int32 × (Nat → Int32)) (fun n i y => wL_law_431 post L xs J x2 x4 (nI (zq_sm C (zq_hs H w 9))) (nI b) (zq_dI (f b)) (zq_dI (s b)) (nI (zq_V pth C (zq_hs H w 9) b)) kc ks n (nI (zq_sm (zq_R pth C (zq_hs H w 9) b) i)) (nI i) 1 (nI (zq_hs H w 9)) op y.1 a1 a2 a3 a4 a5 y.2 a7) (fun _ _ => True) 9 0 (sz, a6) (by omega) trivial ?_ ?_
  · intro n y _
    have E1 : wL_law_481 post L xs J x2 x4 (nI (zq_sm C (zq_hs H w 9))) (nI b) (zq_dI (f b)) (nI (zq_V pth C (zq_hs H w 9) b)) (nI (zq_sm (zq_R pth C (zq_hs H w 9) b) 9)) kc ks 1 (nI (zq_hs H w 9)) op y.1 a1 a2 a3 a4 a5 y.2 a7 := by
      unfold wL_law_481
      exact zw_l486 q1.1 (fun z => absurd z (by decide)) q2 hG (hJ _ _)
    have E0 : zq_own f s b = 0 → wL_law_485 post L xs J x2 x4 (nI (zq_sm C (zq_hs H w 9))) (nI b) (zq_dI (f b)) (nI (zq_V pth C (zq_hs H w 9) b)) (nI (zq_sm (zq_R pth C (zq_hs H w 9) b) 9)) kc ks 1 (nI (zq_hs H w 9)) op y.1 a1 a2 a3 a4 a5 y.2 a7 := by
      intro o
      unfold wL_law_485
      exact zw_l486 q1.1 (fun _ => q1.2 o) q2 hG (hJ _ _)
    refine pk_le 9 9 (fun _ => br_c (fun _ => E1) (fun h1 => br_c (fun _ => E1) (fun h2 => br_c (fun h3 => E0 (if_neg ?_)) (fun h3 => br_c (fun h4 => E0 (if_neg ?_)) (fun _ => E1))))) (fun z => absurd z (by omega))
    · have r2 : ¬ f b ≤ b + 1 := fun z => h2 ((zq_dI_le w1 (by omega)).mpr z)
      have r3 := (zq_dI_neg w2).mp h3
      omega
    · have r2 : ¬ f b ≤ b + 1 := fun z => h2 ((zq_dI_le w1 (by omega)).mpr z)
      have r3 := (zq_dI_gt w2 (by omega)).mp h4
      omega
  · intro n i y hi _ hw
    refine pk_le 9 i (fun z => absurd z (by omega)) (fun _ => zw_arc hb hi hP hN hpt hC (fun z a6' => nm_r (e' := nI (zq_sm (zq_R pth C (zq_hs H w 9) b) (i + 1))) (nI_add _ _) (nm_r (nI_1 i) (hw (z, a6') trivial))))
theorem zw_l379 {post : Int32 → Prop} (hp : post 1) {L : Nat} {xs : Nat → Int32} {x2 x4 : Int64} {op sz : Int32} {a1 a2 a3 a4 a5 a6 a7 : Nat → Int32} {kc ks : Nat} {f s w : Nat → Nat} {H : Nat → Bool} {pth : Nat → List Nat} {C : Nat → Nat} (hP : zq_hs H w 9 ≤ 142) (hN : zq_N f s w H (nI (zq_hs H w 9)) a1 a2 a3 a4) (hpt : zq_pt f s w H pth) (hC : zq_C C (zq_hs H w 9) a5) (hG : zq_sm C (zq_hs H w 9) < 2 ^ 31) (g1 : zq_G x2 f) (g2 : zq_G x4 s) :
    ∃ n, wL_law_379 post L xs x2 x4 (nI (zq_sm C (zq_hs H w 9))) kc ks n 0 1 (nI (zq_hs H w 9)) op sz a1 a2 a3 a4 a5 a6 a7 := by
  refine pk_loop (σ := Int32 × (Nat → Int32)) (fun n i y => wL_law_379 post L xs x2 x4 (nI (zq_sm C (zq_hs H w 9))) kc ks n (nI i) 1 (nI (zq_hs H w 9)) op y.1 a1 a2 a3 a4 a5 y.2 a7) (fun _ _ => True) 9 0 (sz, a6) (by omega) trivial ?_ ?_
  · intro n y _
    exact pk_le 9 9 (fun _ => hp) (fun z => absurd z (by omega))
  · intro n i y hi _ hw
    obtain ⟨w1, w2, w3, w4⟩ := hN.1 i hi
    refine pk_le 9 i (fun z => absurd z (by omega)) (fun _ => nm_r (e' := zq_dI (f i)) (zq_G_d g1 hi w1) (nm_r (e' := zq_dI (s i)) (zq_G_d g2 hi w2) (zw_visits hi hP hN hpt hC (fun z a6' => ?_))))
    exact zw_l431 hi hP hN hpt hC hG (fun z a6' => hw (z, a6') trivial)
theorem zw_l313 {post : Int32 → Prop} (hp : post 1) {L : Nat} {xs : Nat → Int32} {x2 x4 : Int64} {op sz : Int32} {a1 a2 a3 a4 a5 a6 a7 : Nat → Int32} {kc ks : Nat} {f s w : Nat → Nat} {H : Nat → Bool} {pth : Nat → List Nat} {C : Nat → Nat} (hP : zq_hs H w 9 ≤ 142) (hN : zq_N f s w H (nI (zq_hs H w 9)) a1 a2 a3 a4) (hpt : zq_pt f s w H pth) (hC : zq_C C (zq_hs H w 9) a5) (hG : zq_sm C (zq_hs H w 9) < 2 ^ 31) (g1 : zq_G x2 f) (g2 : zq_G x4 s) :
    wL_law_313 post L xs x2 x4 (nI (zq_hs H w 9)) (nI (zq_sm C (zq_hs H w 9))) (nI (zq_sm C (zq_hs H w 9))) (nI (zq_sm (zq_ds C) (zq_hs H w 9))) kc ks 1 (nI (zq_hs H w 9)) op sz a1 a2 a3 a4 a5 a6 a7 := by
  have hD : zq_sm (zq_ds C) (zq_hs H w 9) ≤ zq_hs H w 9 * 1 := zq_sm_bd _ (fun k _ => by unfold zq_ds; split <;> omega)
  have L360 : ∀ z0 z a6', wL_law_360 post L xs x2 x4 (nI (zq_hs H w 9)) (nI (zq_sm C (zq_hs H w 9))) z0 z0 kc ks 1 (nI (zq_hs H w 9)) op z a1 a2 a3 a4 a5 a6' a7 := by
    intro z0 z a6'
    unfold wL_law_360
    exact br_t rfl (zw_pathN rfl (by omega) (br_t rfl (zw_l379 hp hP hN hpt hC hG g1 g2)))
  unfold wL_law_313
  refine br_t rfl (zw_distinct hP hC (br_t rfl (pk_lt (zq_hs H w 9) (zq_sm (zq_ds C) (zq_hs H w 9)) (fun z => absurd z (by omega)) (fun _ => zw_hottest hP hN hpt hC (fun r z a6' q => br_c (fun e => ?_) (fun e => ?_))))))
  · unfold wL_law_350
    refine br_t ?_ (L360 _ _ _)
    rw [q.mp e]
    rfl
  · unfold wL_law_350
    refine br_f ?_ (L360 _ _ _)
    exact nI_ne0 (Nat.pos_of_ne_zero (fun y => e (q.mpr y))) hG
def zq_la (v : Nat → Nat) : Nat → Int32
  | 0 => 0
  | i + 1 => nI (v i)
theorem zw_l235 {post : Int32 → Prop} (hp : post 1) {L : Nat} {xs : Nat → Int32} {x2 x4 : Int64} {op sz : Int32} {a1 a2 a3 a4 a5 a6 a7 : Nat → Int32} {kc ks : Nat} {f s w : Nat → Nat} {H : Nat → Bool} {C : Nat → Nat} (hP : zq_hs H w 9 ≤ 142) (hN : zq_N f s w H (nI (zq_hs H w 9)) a1 a2 a3 a4) (hC : zq_C C (zq_hs H w 9) a5) (hG : zq_sm C (zq_hs H w 9) < 2 ^ 31) (g1 : zq_G x2 f) (g2 : zq_G x4 s) :
    ∃ n, wL_law_235 post L xs x2 x4 (nI (zq_hs H w 9)) (nI (zq_sm C (zq_hs H w 9))) kc ks n 0 0 0 0 1 (nI (zq_hs H w 9)) op sz a1 a2 a3 a4 a5 a6 a7 := by
  obtain ⟨pth, hpt⟩ := zq_pex H hN.1 hN.2.2.2.1
  obtain ⟨v, hv⟩ := zq_so_ex (zq_co pth) (zq_hs H w 9)
  obtain ⟨nf, hnf⟩ := zq_co_v hpt
  have st := zq_so_st hv (fun a b ha hb e => zq_co_i hpt ha hb e)
  have e1 : zq_sm (fun k => C (nf (v k))) (zq_hs H w 9) = zq_sm C (zq_hs H w 9) := by
    rw [zq_so_sum hv (fun x => C (nf x))]
    exact zq_sm_eq _ (fun k hk => by rw [hnf k hk])
  have e2 : zq_sm (fun k => zq_ds C (nf (v k))) (zq_hs H w 9) = zq_sm (zq_ds C) (zq_hs H w 9) := by
    rw [zq_so_sum hv (fun x => zq_ds C (nf x))]
    exact zq_sm_eq _ (fun k hk => by rw [hnf k hk])
  refine pk_loop (σ := Int32 × (Nat → Int32) × (Nat → Int32)) (fun n i y => wL_law_235 post L xs x2 x4 (nI (zq_hs H w 9)) (nI (zq_sm C (zq_hs H w 9))) kc ks n (nI (zq_sm (fun k => C (nf (v k))) i)) (zq_la v i) (nI (zq_sm (fun k => zq_ds C (nf (v k))) i)) (nI i) 1 (nI (zq_hs H w 9)) op y.1 a1 a2 a3 a4 a5 y.2.1 y.2.2) (fun _ _ => True) (zq_hs H w 9) 0 (sz, a6, a7) (Nat.zero_le _) trivial ?_ ?_
  · intro n y _
    refine pk_le 512 (zq_hs H w 9) (fun z => absurd z (by omega)) (fun _ => pk_le (zq_hs H w 9) (zq_hs H w 9) (fun _ => ?_) (fun z => absurd z (by omega)))
    rw [e1, e2]
    exact zw_l313 hp hP hN hpt hC hG g1 g2
  · intro n i y hi _ hw
    obtain ⟨m, m1, m2⟩ := zq_so_mem hv hi
    have cm := zq_co_b hpt m1
    have hCm := hC m m1
    have nm : nf (v i) = m := by rw [m2]; exact hnf m m1
    refine pk_le 512 i (fun z => absurd z (by omega)) (fun _ => pk_le (zq_hs H w 9) i (fun z => absurd z (by omega)) (fun _ => zw_path hN hpt hi (fun u z a6' a7' hu => ?_)))
    have eu : u i = zq_co pth m := by rw [zq_so_un hu hv i hi, m2]
    rw [eu]
    refine zw_times hN hpt m1 ?_
    have hl : ¬ nI (zq_co pth m) ≤ zq_la v i := by
      cases i with
      | zero => exact nI_nle (by omega) (by omega)
      | succ i =>
        have q := st i (i + 1) (by omega) hi
        rw [m2] at q
        exact nI_ge q (by omega)
    have t := hw (z, a6', a7') trivial
    have t1 : zq_sm (fun k => C (nf (v k))) (i + 1) = zq_sm (fun k => C (nf (v k))) i + C m := by
      show zq_sm (fun k => C (nf (v k))) i + C (nf (v i)) = _
      rw [nm]
    have t2 : zq_sm (fun k => zq_ds C (nf (v k))) (i + 1) = zq_sm (fun k => zq_ds C (nf (v k))) i + zq_ds C m := by
      show zq_sm (fun k => zq_ds C (nf (v k))) i + zq_ds C (nf (v i)) = _
      rw [nm]
    have t3 : zq_la v (i + 1) = nI (zq_co pth m) := by
      show nI (v i) = _
      rw [m2]
    rw [t1, t2, t3] at t
    rw [hCm.1]
    refine br_f hl (br_t (nI_pos' hCm.2) (nm_r (nI_add _ _) (pk_le (C m) 0 (fun k => nm_r (nI_1 i) ?_) (fun k => nm_r (nI_1 _) (nm_r (nI_1 i) ?_)) (ha := hCm.2))))
    · have e : zq_ds C m = 0 := if_neg (by omega)
      rw [e, Nat.add_zero] at t
      exact t
    · have e : zq_ds C m = 1 := if_pos k
      rw [e] at t
      exact t
end
section
/-! one turn of the law, and the law -/
theorem zw_turn {post : Int32 → St1 → Prop} {p1 p2 nu pa op sz : Int32} {a1 a2 a3 a4 a5 a6 a7 : Nat → Int32} {f s : Nat → Nat} {M o b c d g lo : Nat} (ho : p1 &&& 31 = nI o) (o32 : o < 32) (hb : b < 9) (hd : d < 9) (hg : g ≤ 12) (hlo : lo < 9) (l1 : g ≤ 8 → lo = g) (l2 : 8 < g → lo = c)
    (e1 : (p2 &&& 15) - (p2 &&& 15) / 9 * 9 = nI b) (e2 : ((p2 >>> ((4 : Int32) &&& 31)) &&& 15) - ((p2 >>> ((4 : Int32) &&& 31)) &&& 15) / 9 * 9 = nI c) (e3 : ((p2 >>> ((8 : Int32) &&& 31)) &&& 15) - ((p2 >>> ((8 : Int32) &&& 31)) &&& 15) / 9 * 9 = nI d) (e4 : (nI b + 1) + ((p2 >>> ((4 : Int32) &&& 31)) &&& 3) = nI g)
    (hS : zq_St f s M nu pa a1 a2 a3 a4 a5)
    (HB : o < 14 → post (-1) (nu, pa, op, sz, a1, a2, a3, a4, a5, a6, a7))
    (HG : o < 14 → ∀ q nu' op' a1' a2' a5', q ≤ 2 → zq_St (zq_up f b (if o < 2 then 0 else lo + 1)) (zq_up s b (if o < 6 then 0 else d + 1)) M nu' pa a1' a2' a3 a4 a5' → post (nI q) (nu', pa, op', sz, a1', a2', a3, a4, a5', a6, a7))
    (HR : 14 ≤ o → ∀ r pa' op' a3' a4' a5', zq_St f s (M + 41) 1 pa' a1 a2 a3' a4' a5' → post r (1, pa', op', sz, a1, a2, a3', a4', a5', a6, a7)) :
    wpL_turn post (nu, pa, op, sz, a1, a2, a3, a4, a5, a6, a7) p1 p2 := by
  have T : wL_turn_63 post p2 (nI o) (nI b) (nI d) (nI lo) nu pa op sz a1 a2 a3 a4 a5 a6 a7 := by
    obtain ⟨m, m1, m2⟩ := pk_andE (p2 >>> ((20 : Int32) &&& 31)) (m := 15) 4 (by decide)
    unfold wL_turn_63
    rw [m2]
    refine pk_le 2 o (fun h2 => pk_le 6 o (fun h6 => pk_le 14 o (fun h14 => ?_) (fun h14 => ?_)) (fun h6 => ?_)) (fun h2 => ?_)
    · obtain ⟨hwf, hf, hs, hn, hK⟩ := hS
      exact zw_run m1 hwf hf hs hn hK (fun r w H pa' op' a3' a4' a5' q1 q2 => HR h14 r pa' op' a3' a4' a5' ⟨hwf, hf, hs, Or.inr ⟨rfl, w, H, q1⟩, q2⟩)
    · have HG' := HG h14
      rw [if_neg (by omega), if_neg (by omega)] at HG'
      exact zw_lead (c := lo + 1) (d := d + 1) hb (by omega) (by omega) hS (HB h14) HG'
    · have HG' := HG (by omega)
      rw [if_neg (by omega), if_pos h6] at HG'
      exact zw_lead (c := lo + 1) (d := 0) hb (by omega) (by omega) hS (HB (by omega)) HG'
    · have HG' := HG (by omega)
      rw [if_pos h2, if_pos (by omega)] at HG'
      exact zw_lead (c := 0) (d := 0) hb (by omega) (by omega) hS (HB (by omega)) HG'
  unfold wpL_turn
  dsimp only
  refine nm_r ho ⟨by decide, nm_r e1 ⟨by decide, nm_r e2 ⟨by decide, nm_r e3 (nm_r e4 (pk_le g 8 (fun z => ?_) (fun z => ?_)))⟩⟩⟩
  · rw [← l1 z]
    exact T
  · rw [← l2 z]
    exact T
theorem zw_l116 {post : Int32 → Prop} {L : Nat} {xs : Nat → Int32} {J : Int64 → Int64 → Int32 → Int32 → Int32 → Int32 → Int32 → (Nat → Int32) → (Nat → Int32) → (Nat → Int32) → (Nat → Int32) → (Nat → Int32) → (Nat → Int32) → (Nat → Int32) → Prop} {x2 x4 : Int64} {x9 nu pa op sz : Int32} {a1 a2 a3 a4 a5 a6 a7 : Nat → Int32} {kc ks j o b d lo : Nat} (o32 : o < 32)
    (h0 : (14 ≤ o ∨ x9 < 0) → J x2 x4 (nI (j + 2)) nu pa op sz a1 a2 a3 a4 a5 a6 a7)
    (h1 : o < 14 → ¬ x9 < 0 → J (zq_pu x2 b (nI (if o < 2 then 0 else lo + 1))) (zq_pu x4 b (nI (if o < 6 then 0 else d + 1))) (nI (j + 2)) nu pa op sz a1 a2 a3 a4 a5 a6 a7) :
    wL_law_116 post L xs J x2 x4 (nI j) (nI o) x9 (nI b) (nI d) (nI lo) kc ks nu pa op sz a1 a2 a3 a4 a5 a6 a7 := by
  have ej : nI j + 2 = nI (j + 2) := nI_add j 2
  unfold wL_law_116
  refine pk_le 14 o (fun h => nm_r ej (h0 (Or.inl h))) (fun h => br_c (fun z => nm_r ej (h0 (Or.inr z))) (fun z => ?_))
  have h1 := h1 h z
  have L158 : ∀ zz : Nat, (if o < 2 then 0 else lo + 1) = zz → wL_law_158 post L xs J x4 (nI j) (nI o) (nI b) (nI d) (nI zz) (x2 &&& (((15 : Int64) <<< ((4 * nI b).toInt64 &&& 63)) ^^^ (-1))) kc ks nu pa op sz a1 a2 a3 a4 a5 a6 a7 := by
    intro zz ez
    rw [ez] at h1
    unfold wL_law_158
    rw [nI_1 d]
    refine nm_e (pk_le 6 o (fun h6 => ?_) (fun h6 => ?_))
    · rw [if_neg (by omega)] at h1
      unfold wL_law_196
      exact nm_e (nm_r ej h1)
    · rw [if_pos h6] at h1
      unfold wL_law_196
      exact nm_e (nm_r ej h1)
  rw [nI_1 lo]
  exact pk_le 2 o (fun h2 => L158 (lo + 1) (if_neg (by omega))) (fun h2 => L158 0 (if_pos h2))
theorem zw_l16 {post : Int32 → Prop} (hp : post 1) {L : Nat} {xs : Nat → Int32} (hL : L ≤ 260) {kc ks : Nat} {nu pa op sz : Int32} {a1 a2 a3 a4 a5 a6 a7 : Nat → Int32} (hS : zq_St (fun _ => 0) (fun _ => 0) 0 nu pa a1 a2 a3 a4 a5) :
    ∃ n, wL_law_16 post L xs kc ks n 0 0 0 nu pa op sz a1 a2 a3 a4 a5 a6 a7 := by
  refine lp14 (fun n x2 x4 x6 nu pa op sz a1 a2 a3 a4 a5 a6 a7 => wL_law_16 post L xs kc ks n x2 x4 x6 nu pa op sz a1 a2 a3 a4 a5 a6 a7)
    (fun x2 x4 x6 nu pa op sz a1 a2 a3 a4 a5 a6 a7 => ∃ (j : Nat) (f s : Nat → Nat), x6 = nI j ∧ j ≤ L + 1 ∧ zq_St f s (41 * j) nu pa a1 a2 a3 a4 a5 ∧ zq_G x2 f ∧ zq_G x4 s)
    (fun x2 x4 x6 nu pa op sz a1 a2 a3 a4 a5 a6 a7 => L + 2 - x6.toNatClampNeg) ?_ 0 0 0 nu pa op sz a1 a2 a3 a4 a5 a6 a7 ⟨0, _, _, rfl, Nat.zero_le _, hS, zq_G_0, zq_G_0⟩
  clear hS nu pa op sz a1 a2 a3 a4 a5 a6 a7
  intro n x2 x4 x6 nu pa op sz a1 a2 a3 a4 a5 a6 a7 hI hw
  obtain ⟨j, f, s, rfl, hj, hS, g1, g2⟩ := hI
  have ej1 : nI j + 1 = nI (j + 1) := nI_1 j
  refine pk_le L (j + 1) (fun hx => ?_) (fun hx => ?_) (hy := ej1)
  · obtain ⟨hwf, hf, hs, hn, hK⟩ := hS
    refine zw_possible hwf hf hs hn (fun w H a3' a4' hN => ?_)
    dsimp only
    have B := zq_bnd hwf hN.2.2.2.1
    have B9 : zq_hs H w 9 ≤ 142 := zq_hs9 (fun b hb => (B b (Nat.zero_le b) hb).2)
    obtain ⟨C, hC⟩ := hK
    have hC' : zq_C C (zq_hs H w 9) a5 := fun k hk => ⟨(hC k (by omega)).1, by have := (hC k (by omega)).2; omega⟩
    have hG1 : zq_sm C (zq_hs H w 9) ≤ zq_hs H w 9 * (41 * j) := zq_sm_bd _ (fun k hk => (hC k (by omega)).2)
    have hG2 : zq_hs H w 9 * (41 * j) ≤ 142 * (41 * 261) := Nat.mul_le_mul B9 (by omega)
    have hG : zq_sm C (zq_hs H w 9) < 2 ^ 31 := by omega
    refine zw_gone B9 hC' ?_
    dsimp only
    exact zw_l235 hp B9 hN hC' hG g1 g2
  · obtain ⟨o, o1, o2⟩ := pk_andE (xs j) (m := 31) 5 (by decide)
    obtain ⟨b, c, d, g, b9, c9, d9, g1', g12, e1, e2, e3, e4⟩ := zq_dec (xs (j + 1))
    obtain ⟨lo, l9, l1, l2⟩ : ∃ lo, lo < 9 ∧ (g ≤ 8 → lo = g) ∧ (8 < g → lo = c) := by
      by_cases z : g ≤ 8
      · exact ⟨g, by omega, fun _ => rfl, fun y => absurd y (by omega)⟩
      · exact ⟨c, c9, fun y => absurd y z, fun _ => rfl⟩
    have mu : ∀ x2' x4' nu' pa' op' sz' (a1' a2' a3' a4' a5' a6' a7' : Nat → Int32), (∃ (f s : Nat → Nat), zq_St f s (41 * (j + 2)) nu' pa' a1' a2' a3' a4' a5' ∧ zq_G x2' f ∧ zq_G x4' s) → wL_law_16 post L xs kc ks n x2' x4' (nI (j + 2)) nu' pa' op' sz' a1' a2' a3' a4' a5' a6' a7' := by
      intro x2' x4' nu' pa' op' sz' a1' a2' a3' a4' a5' a6' a7' h
      obtain ⟨f', s', h1, h2, h3⟩ := h
      refine hw x2' x4' (nI (j + 2)) nu' pa' op' sz' a1' a2' a3' a4' a5' a6' a7' ⟨j + 2, f', s', rfl, by omega, h1, h2, h3⟩ ?_
      rw [nI_clamp (show j + 2 < 2 ^ 31 by omega), nI_clamp (show j < 2 ^ 31 by omega)]
      omega
    have up : ∀ {f s : Nat → Nat} {M : Nat} {nu pa : Int32} {a1 a2 a3 a4 a5 : Nat → Int32}, zq_St f s M nu pa a1 a2 a3 a4 a5 → M ≤ 41 * (j + 2) → zq_St f s (41 * (j + 2)) nu pa a1 a2 a3 a4 a5 := by
      intro f s M nu pa a1 a2 a3 a4 a5 h hm
      exact ⟨h.1, h.2.1, h.2.2.1, h.2.2.2.1, zq_K_m h.2.2.2.2 hm⟩
    rw [ej1, nI_clamp (show j < 2 ^ 31 by omega), nI_clamp (show j + 1 < 2 ^ 31 by omega)]
    refine ⟨pk_in j L (by omega), nm_r o2 ⟨pk_in (j + 1) L (by omega), nm_e ⟨pk_in j L (by omega), zw_turn o2 o1 b9 d9 g12 l9 l1 l2 e1 e2 e3 e4 hS (fun h14 => ?_) (fun h14 q nu' op' a1' a2' a5' hq hS' => ?_) (fun h14 r pa' op' a3' a4' a5' hS' => ?_)⟩⟩⟩
    · have h := zw_l116 (post := post) (L := L) (xs := xs) (J := wL_law_16 post L xs kc ks n) (x2 := x2) (x4 := x4) (x9 := -1) (nu := nu) (pa := pa) (op := op) (sz := sz) (a1 := a1) (a2 := a2) (a3 := a3) (a4 := a4) (a5 := a5) (a6 := a6) (a7 := a7) (kc := kc) (ks := ks) (j := j) (o := o) (b := b) (d := d) (lo := lo) o1
        (fun _ => mu _ _ _ _ _ _ _ _ _ _ _ _ _ ⟨f, s, up hS (by omega), g1, g2⟩) (fun _ z => absurd (by decide) z)
      refine ⟨by decide, nm_r e1 ⟨by decide, nm_r e2 ⟨by decide, nm_r e3 (nm_r e4 (pk_le g 8 (fun z => ?_) (fun z => ?_)))⟩⟩⟩
      · rw [← l1 z]
        exact h
      · rw [← l2 z]
        exact h
    · have h := zw_l116 (post := post) (L := L) (xs := xs) (J := wL_law_16 post L xs kc ks n) (x2 := x2) (x4 := x4) (x9 := nI q) (nu := nu') (pa := pa) (op := op') (sz := sz) (a1 := a1') (a2 := a2') (a3 := a3) (a4 := a4) (a5 := a5') (a6 := a6) (a7 := a7) (kc := kc) (ks := ks) (j := j) (o := o) (b := b) (d := d) (lo := lo) o1
        (fun z => by
          rcases z with z | z
          · omega
          · exact absurd z (nI_pos (by omega))) (fun _ _ => mu _ _ _ _ _ _ _ _ _ _ _ _ _ ⟨_, _, up hS' (by omega), zq_G_u g1 b9 (by split <;> omega), zq_G_u g2 b9 (by split <;> omega)⟩)
      refine ⟨by decide, nm_r e1 ⟨by decide, nm_r e2 ⟨by decide, nm_r e3 (nm_r e4 (pk_le g 8 (fun z => ?_) (fun z => ?_)))⟩⟩⟩
      · rw [← l1 z]
        exact h
      · rw [← l2 z]
        exact h
    · have h := zw_l116 (post := post) (L := L) (xs := xs) (J := wL_law_16 post L xs kc ks n) (x2 := x2) (x4 := x4) (x9 := r) (nu := 1) (pa := pa') (op := op') (sz := sz) (a1 := a1) (a2 := a2) (a3 := a3') (a4 := a4') (a5 := a5') (a6 := a6) (a7 := a7) (kc := kc) (ks := ks) (j := j) (o := o) (b := b) (d := d) (lo := lo) o1
        (fun _ => mu _ _ _ _ _ _ _ _ _ _ _ _ _ ⟨f, s, up hS' (by omega), g1, g2⟩) (fun z => absurd z (by omega))
      refine ⟨by decide, nm_r e1 ⟨by decide, nm_r e2 ⟨by decide, nm_r e3 (nm_r e4 (pk_le g 8 (fun z => ?_) (fun z => ?_)))⟩⟩⟩
      · rw [← l1 z]
        exact h
      · rw [← l2 z]
        exact h
theorem zw_init {post : St1 → Prop} (HP : ∀ a1 a2, zq_A (fun _ => 0) a1 → zq_A (fun _ => 0) a2 → post (0, 0, 0, 0, a1, a2, (fun _ => 0), (fun _ => 0), (fun _ => 0), (fun _ => 0), (fun _ => 0))) : wpX_init post 7 365 (0, 0, 0, 0) := by
  unfold wpX_init
  dsimp only
  refine ⟨by decide, by decide, by decide, by decide, by decide, by decide, by decide, by decide, by decide, by decide, by decide, by decide, by decide, by decide, ?_⟩
  refine pk_loop (σ := (Nat → Int32) × (Nat → Int32)) (fun n i y => wX_init_64 post 7 365 7 365 0 0 0 0 n (nI i) y.1 y.2 (fun _ => 0) (fun _ => 0) (fun _ => 0) (fun _ => 0) (fun _ => 0)) (fun i y => (∀ b, b < i → y.1 b = -1) ∧ (∀ b, b < i → y.2 b = -1)) 9 0 ((fun _ => 0), (fun _ => 0)) (by omega) ⟨fun b hb => absurd hb (Nat.not_lt_zero b), fun b hb => absurd hb (Nat.not_lt_zero b)⟩ ?_ ?_
  · intro n y q
    exact pk_le 9 9 (fun _ => HP y.1 y.2 q.1 q.2) (fun z => absurd z (by omega))
  · intro n i y hi q hw
    have st : ∀ a : Nat → Int32, (∀ b, b < i → a b = -1) → ∀ b, b < i + 1 → upd a i (-1) b = -1 := by
      intro a h b hb
      by_cases e : b = i
      · rw [e, pk_us]
      · rw [pk_un e]
        exact h b (by omega)
    refine pk_le 9 i (fun z => absurd z (by omega)) (fun _ => ?_)
    rw [nI_clamp (show i < 2 ^ 31 by omega)]
    exact ⟨pk_in i 9 hi, nm_e ⟨pk_in i 9 hi, nm_e (nm_r (nI_1 i) (hw (_, _) ⟨st _ q.1, st _ q.2⟩))⟩⟩
theorem i_vc (xs : Nat → Int32) (L : Nat) (hL : L ≤ 260) : wpL_law (fun r => r = 1) L xs := by
  refine ⟨7, 365, by decide, by decide, zw_init (fun a1 a2 h1 h2 => ?_)⟩
  dsimp only
  exact zw_l16 (post := fun r => r = 1) rfl hL ⟨fun b _ => ⟨Nat.zero_le _, Nat.zero_le _, fun _ => rfl, fun _ => rfl⟩, h1, h2, Or.inl rfl, fun _ => 0, fun k _ => ⟨rfl, Nat.le_refl 0⟩⟩
end

section
/-! ===== sums over 1..k and over f < k ===== -/
def ft_s (g : Nat → Nat) : Nat → Nat
  | 0 => 0
  | k + 1 => ft_s g k + g (k + 1)
theorem ft_s_congr {g h : Nat → Nat} : ∀ k, (∀ n, 1 ≤ n → n ≤ k → g n = h n) → ft_s g k = ft_s h k
  | 0, _ => rfl
  | k + 1, H => by
    show ft_s g k + g (k + 1) = ft_s h k + h (k + 1)
    rw [ft_s_congr k (fun n h1 h2 => H n h1 (by omega)), H (k + 1) (by omega) (by omega)]
theorem ft_s_le {g h : Nat → Nat} : ∀ k, (∀ n, 1 ≤ n → n ≤ k → g n ≤ h n) → ft_s g k ≤ ft_s h k
  | 0, _ => Nat.le_refl 0
  | k + 1, H => Nat.add_le_add (ft_s_le k (fun n h1 h2 => H n h1 (by omega))) (H (k + 1) (by omega) (by omega))
theorem ft_s_add (g h : Nat → Nat) : ∀ k, ft_s (fun n => g n + h n) k = ft_s g k + ft_s h k
  | 0 => rfl
  | k + 1 => by
    show ft_s (fun n => g n + h n) k + (g (k + 1) + h (k + 1)) = (ft_s g k + g (k + 1)) + (ft_s h k + h (k + 1))
    rw [ft_s_add g h k]
    omega
theorem ft_s_zero {g : Nat → Nat} : ∀ k, (∀ n, 1 ≤ n → n ≤ k → g n = 0) → ft_s g k = 0
  | 0, _ => rfl
  | k + 1, H => by
    show ft_s g k + g (k + 1) = 0
    rw [ft_s_zero k (fun n h1 h2 => H n h1 (by omega)), H (k + 1) (by omega) (by omega)]
theorem ft_s_one {v c : Nat} (hc : 1 ≤ c) : ∀ k, c ≤ k → ft_s (fun n => if n = c then v else 0) k = v
  | 0, h => absurd h (by omega)
  | k + 1, h => by
    show ft_s (fun n => if n = c then v else 0) k + (if k + 1 = c then v else 0) = v
    by_cases e : k + 1 = c
    · rw [if_pos e, ft_s_zero k (fun n h1 h2 => if_neg (by omega))]
      omega
    · rw [if_neg e, ft_s_one hc k (by omega)]
      omega
theorem ft_s_mem {g : Nat → Nat} {c : Nat} (hc : 1 ≤ c) : ∀ k, c ≤ k → g c ≤ ft_s g k
  | 0, h => absurd h (by omega)
  | k + 1, h => by
    show g c ≤ ft_s g k + g (k + 1)
    by_cases e : c = k + 1
    · rw [e]
      omega
    · have := ft_s_mem (g := g) hc k (by omega)
      omega
theorem ft_s_upd {g h : Nat → Nat} {c w k : Nat} (hc : 1 ≤ c) (hk : c ≤ k) (h1 : ∀ n, n ≠ c → h n = g n) (h2 : h c = g c + w) : ft_s h k = ft_s g k + w := by
  have e : ft_s h k = ft_s (fun n => g n + (if n = c then w else 0)) k := ft_s_congr k (fun n _ _ => by
    by_cases e : n = c
    · rw [if_pos e, e, h2]
    · rw [if_neg e, h1 n e]
      rfl)
  rw [e, ft_s_add, ft_s_one hc k hk]
/-- the sum over f < k -/
def ft_8 (g : Nat → Nat) : Nat → Nat
  | 0 => 0
  | k + 1 => ft_8 g k + g k
theorem ft_8_congr {g h : Nat → Nat} : ∀ k, (∀ f, f < k → g f = h f) → ft_8 g k = ft_8 h k
  | 0, _ => rfl
  | k + 1, H => by
    show ft_8 g k + g k = ft_8 h k + h k
    rw [ft_8_congr k (fun f h1 => H f (by omega)), H k (by omega)]
theorem ft_8_add (g h : Nat → Nat) : ∀ k, ft_8 (fun n => g n + h n) k = ft_8 g k + ft_8 h k
  | 0 => rfl
  | k + 1 => by
    show ft_8 (fun n => g n + h n) k + (g k + h k) = (ft_8 g k + g k) + (ft_8 h k + h k)
    rw [ft_8_add g h k]
    omega
theorem ft_8_zero {g : Nat → Nat} : ∀ k, (∀ f, f < k → g f = 0) → ft_8 g k = 0
  | 0, _ => rfl
  | k + 1, H => by
    show ft_8 g k + g k = 0
    rw [ft_8_zero k (fun f h1 => H f (by omega)), H k (by omega)]
theorem ft_8_one {v a : Nat} : ∀ k, a < k → ft_8 (fun f => if a = f then v else 0) k = v
  | 0, h => absurd h (by omega)
  | k + 1, h => by
    show ft_8 (fun f => if a = f then v else 0) k + (if a = k then v else 0) = v
    by_cases e : a = k
    · rw [if_pos e, ft_8_zero k (fun f h1 => if_neg (by omega))]
      omega
    · rw [if_neg e, ft_8_one k (by omega)]
      omega
/-- what is sorted by a function below 8 adds up to the whole -/
theorem ft_part {F g : Nat → Nat} : ∀ M, (∀ c, 1 ≤ c → c ≤ M → F c < 8) → ft_8 (fun f => ft_s (fun c => if F c = f then g c else 0) M) 8 = ft_s g M
  | 0, _ => rfl
  | k + 1, H => by
    have e : ft_8 (fun f => ft_s (fun c => if F c = f then g c else 0) (k + 1)) 8 = ft_8 (fun f => ft_s (fun c => if F c = f then g c else 0) k + (if F (k + 1) = f then g (k + 1) else 0)) 8 := rfl
    rw [e, ft_8_add, ft_part k (fun c h1 h2 => H c h1 (by omega)), ft_8_one 8 (H (k + 1) (by omega) (by omega))]
    rfl
/-! ===== a place of a pure array written ===== -/
def ft_u (f : Nat → Nat) (k v : Nat) : Nat → Nat := fun j => if j = k then v else f j
theorem ft_us {f : Nat → Nat} {k v : Nat} : ft_u f k v k = v := if_pos rfl
theorem ft_un {f : Nat → Nat} {k v j : Nat} (h : j ≠ k) : ft_u f k v j = f j := if_neg h
/-! ===== the tree: M nodes beside the root, functions F, nodes above A, depths D ===== -/
def ft_ok (M : Nat) (F A D : Nat → Nat) : Prop :=
  M ≤ 320 ∧ F 0 = 8 ∧ D 0 = 0 ∧ (∀ n, 1 ≤ n → n ≤ M → A n < n ∧ F n < 8 ∧ D n = D (A n) + 1 ∧ D n ≤ 8) ∧ (∀ m n, 1 ≤ m → m ≤ M → 1 ≤ n → n ≤ M → A m = A n → F m = F n → m = n)
/-- the last child of p among 1..k, 0 for none -/
def ft_l (A : Nat → Nat) (p : Nat) : Nat → Nat
  | 0 => 0
  | k + 1 => if A (k + 1) = p then k + 1 else ft_l A p k
theorem ft_l_le (A : Nat → Nat) (p : Nat) : ∀ k, ft_l A p k ≤ k
  | 0 => Nat.le_refl 0
  | k + 1 => by
    show (if A (k + 1) = p then k + 1 else ft_l A p k) ≤ k + 1
    by_cases e : A (k + 1) = p
    · rw [if_pos e]
      exact Nat.le_refl _
    · rw [if_neg e]
      exact Nat.le_succ_of_le (ft_l_le A p k)
theorem ft_l_congr {A B : Nat → Nat} (p : Nat) : ∀ k, (∀ n, 1 ≤ n → n ≤ k → A n = B n) → ft_l A p k = ft_l B p k
  | 0, _ => rfl
  | k + 1, H => by
    show (if A (k + 1) = p then k + 1 else ft_l A p k) = (if B (k + 1) = p then k + 1 else ft_l B p k)
    rw [H (k + 1) (by omega) (by omega), ft_l_congr p k (fun n h1 h2 => H n h1 (by omega))]
/-- the child of p with the function f among 1..k, 0 for none -/
def ft_c (F A : Nat → Nat) (p f : Nat) : Nat → Nat
  | 0 => 0
  | k + 1 => if A (k + 1) = p ∧ F (k + 1) = f then k + 1 else ft_c F A p f k
theorem ft_c_le (F A : Nat → Nat) (p f : Nat) : ∀ k, ft_c F A p f k ≤ k
  | 0 => Nat.le_refl 0
  | k + 1 => by
    show (if A (k + 1) = p ∧ F (k + 1) = f then k + 1 else ft_c F A p f k) ≤ k + 1
    by_cases e : A (k + 1) = p ∧ F (k + 1) = f
    · rw [if_pos e]
      exact Nat.le_refl _
    · rw [if_neg e]
      exact Nat.le_succ_of_le (ft_c_le F A p f k)
theorem ft_c_some {F A : Nat → Nat} {p f : Nat} : ∀ k, ft_c F A p f k ≠ 0 → A (ft_c F A p f k) = p ∧ F (ft_c F A p f k) = f
  | 0, h => absurd rfl h
  | k + 1, h => by
    have d : ft_c F A p f (k + 1) = (if A (k + 1) = p ∧ F (k + 1) = f then k + 1 else ft_c F A p f k) := rfl
    rw [d] at h ⊢
    by_cases e : A (k + 1) = p ∧ F (k + 1) = f
    · rw [if_pos e]
      exact e
    · rw [if_neg e] at h ⊢
      exact ft_c_some k h
theorem ft_c_none {F A : Nat → Nat} {p f : Nat} : ∀ k, ft_c F A p f k = 0 → ∀ n, 1 ≤ n → n ≤ k → ¬ (A n = p ∧ F n = f)
  | 0, _, n, h1, h2 => absurd h1 (by omega)
  | k + 1, h, n, h1, h2 => by
    have d : ft_c F A p f (k + 1) = (if A (k + 1) = p ∧ F (k + 1) = f then k + 1 else ft_c F A p f k) := rfl
    rw [d] at h
    by_cases e : A (k + 1) = p ∧ F (k + 1) = f
    · rw [if_pos e] at h
      omega
    · rw [if_neg e] at h
      by_cases en : n = k + 1
      · rw [en]
        exact e
      · exact ft_c_none k h n h1 (by omega)
/-- what the children of n weigh -/
def ft_ch (A T : Nat → Nat) (M n : Nat) : Nat := ft_s (fun c => if A c = n then T c else 0) M
def ft_v (T : Nat → Nat) : Option Nat → Nat
  | none => 0
  | some x => T x
def ft_nx (F A : Nat → Nat) (M : Nat) (o : Option Nat) (f : Nat) : Option Nat := match o with
  | none => none
  | some x => if ft_c F A x f M = 0 then none else some (ft_c F A x f M)
def ft_nd (F A : Nat → Nat) (M : Nat) (st : Nat → Nat) : Nat → Option Nat
  | 0 => some 0
  | k + 1 => ft_nx F A M (ft_nd F A M st k) (st k)
theorem ft_nd_congr {F A : Nat → Nat} {M : Nat} {st st' : Nat → Nat} : ∀ k, (∀ i, i < k → st i = st' i) → ft_nd F A M st k = ft_nd F A M st' k
  | 0, _ => rfl
  | k + 1, H => by
    show ft_nx F A M (ft_nd F A M st k) (st k) = ft_nx F A M (ft_nd F A M st' k) (st' k)
    rw [ft_nd_congr k (fun i h => H i (by omega)), H k (by omega)]
theorem ft_nd_none {F A : Nat → Nat} {M : Nat} {st : Nat → Nat} {k : Nat} (h : ft_nd F A M st k = none) : ∀ j, ft_nd F A M st (k + j) = none
  | 0 => h
  | j + 1 => by
    show ft_nx F A M (ft_nd F A M st (k + j)) (st (k + j)) = none
    rw [ft_nd_none h j]
    rfl
theorem ft_nd_in {F A D : Nat → Nat} {M : Nat} {st : Nat → Nat} (ok : ft_ok M F A D) : ∀ k x, ft_nd F A M st k = some x → x ≤ M ∧ D x = k
  | 0, x, h => by
    have e : (0 : Nat) = x := Option.some.inj h
    rw [← e]
    exact ⟨Nat.zero_le _, ok.2.2.1⟩
  | k + 1, x, h => by
    have h : ft_nx F A M (ft_nd F A M st k) (st k) = some x := h
    cases hy : ft_nd F A M st k with
    | none =>
      rw [hy] at h
      exact absurd h (by simp [ft_nx])
    | some y =>
      rw [hy] at h
      have h : (if ft_c F A y (st k) M = 0 then none else some (ft_c F A y (st k) M)) = some x := h
      by_cases e : ft_c F A y (st k) M = 0
      · rw [if_pos e] at h
        exact absurd h (by simp)
      · rw [if_neg e] at h
        have hx : ft_c F A y (st k) M = x := Option.some.inj h
        have h1 := ft_c_some M e
        have h2 := ft_c_le F A y (st k) M
        have h3 := ft_nd_in ok k y hy
        have h4 := ok.2.2.2.1 (ft_c F A y (st k) M) (by omega) h2
        rw [hx] at h1 h2 h4
        refine ⟨h2, ?_⟩
        rw [h4.2.2.1, h1.1, h3.2]
/-! ===== the weights ===== -/
/-- every node but x weighs its own and its children's weight; x has w more -/
def ft_wt (M : Nat) (A O T : Nat → Nat) (x w : Nat) : Prop := ∀ n, n ≤ M → T n = O n + (if n = x then w else 0) + ft_ch A T M n
def ft_w0 (M : Nat) (A O T : Nat → Nat) : Prop := ∀ n, n ≤ M → T n = O n + ft_ch A T M n
theorem ft_wt_start {M w : Nat} {A O T : Nat → Nat} (h : ft_w0 M A O T) : ft_wt M A O (ft_u T 0 (T 0 + w)) 0 w := by
  intro n hn
  have e : ft_ch A (ft_u T 0 (T 0 + w)) M n = ft_ch A T M n := ft_s_congr M (fun c h1 _ => by
    rw [ft_un (show c ≠ 0 by omega)])
  rw [e]
  have h1 := h n hn
  by_cases en : n = 0
  · rw [en] at h1 ⊢
    rw [ft_us, if_pos rfl]
    omega
  · rw [ft_un en, if_neg en]
    omega
theorem ft_wt_end {M x w : Nat} {A O T : Nat → Nat} (h : ft_wt M A O T x w) : ft_w0 M A (ft_u O x (O x + w)) T := by
  intro n hn
  have h1 := h n hn
  by_cases en : n = x
  · rw [if_pos en] at h1
    rw [en] at h1 ⊢
    rw [ft_us]
    omega
  · rw [if_neg en] at h1
    rw [ft_un en]
    omega
theorem ft_wt_step {M x w c : Nat} {F A D O T : Nat → Nat} (ok : ft_ok M F A D) (h : ft_wt M A O T x w) (h1 : 1 ≤ c) (h2 : c ≤ M) (hA : A c = x) : ft_wt M A O (ft_u T c (T c + w)) c w := by
  intro n hn
  have e : ft_ch A (ft_u T c (T c + w)) M n = ft_ch A T M n + (if n = x then w else 0) := by
    refine ft_s_upd h1 h2 (fun m hm => ?_) ?_
    · rw [ft_un hm]
    · show (if A c = n then ft_u T c (T c + w) c else 0) = (if A c = n then T c else 0) + (if n = x then w else 0)
      rw [ft_us, hA]
      by_cases en : n = x
      · rw [if_pos en.symm, if_pos en.symm, if_pos en]
      · rw [if_neg (fun z => en z.symm), if_neg (fun z => en z.symm), if_neg en]
  rw [e]
  have h3 := h n hn
  have h4 := (ok.2.2.2.1 c h1 h2).1
  by_cases en : n = c
  · rw [en] at h3 ⊢
    rw [ft_us, if_pos rfl]
    omega
  · rw [ft_un en, if_neg en]
    omega
theorem ft_wt_add {M x w : Nat} {F A D O T : Nat → Nat} (ok : ft_ok M F A D) (h : ft_wt M A O T x w) (hx : x ≤ M) (hO : O (M + 1) = 0) (hT : T (M + 1) = 0) : ft_wt (M + 1) (ft_u A (M + 1) x) O T x w := by
  intro n hn
  have e : ft_ch (ft_u A (M + 1) x) T (M + 1) n = ft_ch A T M n := by
    show ft_s (fun c => if ft_u A (M + 1) x c = n then T c else 0) M + (if ft_u A (M + 1) x (M + 1) = n then T (M + 1) else 0) = ft_ch A T M n
    have e1 : (if ft_u A (M + 1) x (M + 1) = n then T (M + 1) else 0) = 0 := by
      rw [hT]
      exact ite_self 0
    rw [e1]
    exact ft_s_congr M (fun c h1 h2 => by rw [ft_un (show c ≠ M + 1 by omega)])
  rw [e]
  by_cases en : n = M + 1
  · have e2 : ft_ch A T M n = 0 := ft_s_zero M (fun c h1 h2 => if_neg (by
      have := (ok.2.2.2.1 c h1 h2).1
      omega))
    rw [e2, en, hT, hO, if_neg (by omega)]
  · exact h n (by omega)
theorem ft_ok_add {M x f : Nat} {F A D : Nat → Nat} (ok : ft_ok M F A D) (hM : M + 1 ≤ 320) (hx : x ≤ M) (hf : f < 8) (hD : D x < 8) (hc : ft_c F A x f M = 0) : ft_ok (M + 1) (ft_u F (M + 1) f) (ft_u A (M + 1) x) (ft_u D (M + 1) (D x + 1)) := by
  have hn := ft_c_none M hc
  obtain ⟨_, h2, h3, h4, h5⟩ := ok
  refine ⟨hM, ?_, ?_, ?_, ?_⟩
  · rw [ft_un (by omega)]
    exact h2
  · rw [ft_un (by omega)]
    exact h3
  · intro n n1 n2
    by_cases en : n = M + 1
    · rw [en, ft_us, ft_us, ft_us, ft_un (show x ≠ M + 1 by omega)]
      exact ⟨by omega, hf, rfl, by omega⟩
    · have h := h4 n n1 (by omega)
      rw [ft_un en, ft_un en, ft_un en, ft_un (show A n ≠ M + 1 by omega)]
      exact h
  · intro m n m1 m2 n1 n2
    by_cases em : m = M + 1
    · by_cases en : n = M + 1
      · intro _ _
        rw [em, en]
      · rw [em, ft_us, ft_us, ft_un en, ft_un en]
        intro e1 e2
        exact absurd ⟨e1.symm, e2.symm⟩ (hn n n1 (by omega))
    · by_cases en : n = M + 1
      · rw [en, ft_us, ft_us, ft_un em, ft_un em]
        intro e1 e2
        exact absurd ⟨e1, e2⟩ (hn m m1 (by omega))
      · rw [ft_un em, ft_un em, ft_un en, ft_un en]
        exact h5 m n m1 (by omega) n1 (by omega)
theorem ft_T_le {M : Nat} {F A D O T : Nat → Nat} (ok : ft_ok M F A D) (h : ft_w0 M A O T) : ∀ k n, n ≤ k → n ≤ M → T n ≤ T 0
  | 0, n, hk, _ => by
    have e : n = 0 := by omega
    rw [e]
    exact Nat.le_refl _
  | k + 1, n, hk, hn => by
    by_cases e : n = 0
    · rw [e]
      exact Nat.le_refl _
    · have h1 := (ok.2.2.2.1 n (by omega) hn).1
      have h2 := ft_T_le ok h k (A n) (by omega) (by omega)
      have h3 := h (A n) (by omega)
      have h4 : (if A n = A n then T n else 0) ≤ ft_ch A T M (A n) := ft_s_mem (g := fun c => if A c = A n then T c else 0) (by omega) M hn
      rw [if_pos rfl] at h4
      omega
end
section
/-! ===== sums over the nodes where H holds ===== -/
def ft_on (H : Nat → Bool) (g : Nat → Nat) (M : Nat) : Nat := ft_s (fun n => if H n = true then g n else 0) M
theorem ft_one0 {v a M : Nat} (h : a ≤ M) : (if 0 = a then v else 0) + ft_s (fun n => if n = a then v else 0) M = v := by
  by_cases e : 0 = a
  · rw [if_pos e, ft_s_zero M (fun n h1 _ => if_neg (by omega))]
    rfl
  · rw [if_neg e, ft_s_one (by omega) M h]
    exact Nat.zero_add v
theorem ft_swap {A T : Nat → Nat} {H : Nat → Bool} {M : Nat} : ∀ k, (∀ c, 1 ≤ c → c ≤ k → A c ≤ M) →
    (if H 0 = true then ft_ch A T k 0 else 0) + ft_s (fun n => if H n = true then ft_ch A T k n else 0) M = ft_on (fun c => H (A c)) T k
  | 0, _ => by
    have z : ∀ n, (if H n = true then ft_ch A T 0 n else 0) = 0 := fun n => ite_self 0
    rw [z 0, ft_s_zero M (fun n _ _ => z n)]
    rfl
  | k + 1, h => by
    have ih := ft_swap (T := T) (H := H) k (fun c h1 h2 => h c h1 (by omega))
    have hA := h (k + 1) (by omega) (by omega)
    have e : ∀ n, (if H n = true then ft_ch A T (k + 1) n else 0) = (if H n = true then ft_ch A T k n else 0) + (if n = A (k + 1) then (if H (A (k + 1)) = true then T (k + 1) else 0) else 0) := by
      intro n
      show (if H n = true then ft_ch A T k n + (if A (k + 1) = n then T (k + 1) else 0) else 0) = _
      by_cases e1 : n = A (k + 1)
      · rw [if_pos e1, if_pos e1.symm, e1]
        by_cases e2 : H (A (k + 1)) = true
        · rw [if_pos e2, if_pos e2, if_pos e2]
        · rw [if_neg e2, if_neg e2, if_neg e2]
      · have e3 : ¬ A (k + 1) = n := fun z => e1 z.symm
        rw [if_neg e1, if_neg e3]
        rfl
    have e2 : ft_s (fun n => if H n = true then ft_ch A T (k + 1) n else 0) M = ft_s (fun n => if H n = true then ft_ch A T k n else 0) M + ft_s (fun n => if n = A (k + 1) then (if H (A (k + 1)) = true then T (k + 1) else 0) else 0) M := by
      rw [← ft_s_add]
      exact ft_s_congr M (fun n _ _ => e n)
    have e3 := ft_one0 (v := if H (A (k + 1)) = true then T (k + 1) else 0) hA
    have e4 : ft_on (fun c => H (A c)) T (k + 1) = ft_on (fun c => H (A c)) T k + (if H (A (k + 1)) = true then T (k + 1) else 0) := rfl
    rw [e 0, e2, e4, ← ih]
    generalize (if H (A (k + 1)) = true then T (k + 1) else 0) = v at e3 ⊢
    generalize (if 0 = A (k + 1) then v else 0) = v0 at e3 ⊢
    generalize ft_s (fun n => if n = A (k + 1) then v else 0) M = v1 at e3 ⊢
    generalize (if H 0 = true then ft_ch A T k 0 else 0) = v2
    generalize ft_s (fun n => if H n = true then ft_ch A T k n else 0) M = v3
    omega
theorem ft_sum_id {M : Nat} {F A D O T : Nat → Nat} (ok : ft_ok M F A D) (h : ft_w0 M A O T) (H : Nat → Bool) :
    (if H 0 = true then T 0 else 0) + ft_on H T M = (if H 0 = true then O 0 else 0) + ft_on H O M + ft_on (fun c => H (A c)) T M := by
  have e : ∀ n, n ≤ M → (if H n = true then T n else 0) = (if H n = true then O n else 0) + (if H n = true then ft_ch A T M n else 0) := by
    intro n hn
    by_cases e2 : H n = true
    · rw [if_pos e2, if_pos e2, if_pos e2]
      exact h n hn
    · rw [if_neg e2, if_neg e2, if_neg e2]
  have e1 : ft_on H T M = ft_on H O M + ft_s (fun n => if H n = true then ft_ch A T M n else 0) M := by
    have := ft_s_add (fun n => if H n = true then O n else 0) (fun n => if H n = true then ft_ch A T M n else 0) M
    exact Eq.trans (ft_s_congr M (fun n _ hn => e n hn)) this
  have e2 := ft_swap (A := A) (T := T) (H := H) (M := M) M (fun c h1 h2 => by
    have := (ok.2.2.2.1 c h1 h2).1
    omega)
  rw [e 0 (Nat.zero_le _), e1, ← e2]
  generalize (if H 0 = true then O 0 else 0) = v0
  generalize (if H 0 = true then ft_ch A T M 0 else 0) = v1
  generalize ft_s (fun n => if H n = true then ft_ch A T M n else 0) M = v2
  generalize ft_on H O M = v3
  omega
theorem ft_on_le {M : Nat} {H K : Nat → Bool} {O : Nat → Nat} (h : ∀ n, 1 ≤ n → n ≤ M → H n = true → K n = true) : ft_on H O M ≤ ft_on K O M := by
  refine ft_s_le M (fun n h1 h2 => ?_)
  by_cases e : H n = true
  · rw [if_pos e, if_pos (h n h1 h2 e)]
    exact Nat.le_refl _
  · rw [if_neg e]
    exact Nat.zero_le _
/-- the whole weight -/
theorem ft_all {M : Nat} {F A D O T : Nat → Nat} (ok : ft_ok M F A D) (h : ft_w0 M A O T) : T 0 = O 0 + ft_s O M := by
  have e := ft_sum_id ok h (fun _ => true)
  have e1 : ft_on (fun _ => true) T M = ft_s T M := ft_s_congr M (fun n _ _ => if_pos rfl)
  have e2 : ft_on (fun _ => true) O M = ft_s O M := ft_s_congr M (fun n _ _ => if_pos rfl)
  rw [e1, e2, if_pos rfl, if_pos rfl] at e
  omega
theorem ft_on_all {M : Nat} {H : Nat → Bool} {O : Nat → Nat} : ft_on H O M ≤ ft_s O M := by
  refine ft_s_le M (fun n h1 h2 => ?_)
  by_cases e : H n = true
  · rw [if_pos e]
    exact Nat.le_refl _
  · rw [if_neg e]
    exact Nat.zero_le _
/-! ===== nodes with a mark on the way up ===== -/
def ft_hit (A : Nat → Nat) (P : Nat → Bool) : Nat → Nat → Bool
  | 0, _ => false
  | k + 1, n => if n = 0 then false else (P n || ft_hit A P k (A n))
theorem ft_hit_0 (A : Nat → Nat) (P : Nat → Bool) : ∀ k, ft_hit A P k 0 = false
  | 0 => rfl
  | _ + 1 => rfl
theorem ft_hit_s {A : Nat → Nat} {P : Nat → Bool} {k n : Nat} (h : n ≠ 0) : ft_hit A P (k + 1) n = (P n || ft_hit A P k (A n)) := if_neg h
theorem ft_hit_st {M : Nat} {F A D : Nat → Nat} {P : Nat → Bool} (ok : ft_ok M F A D) : ∀ k j n, n ≤ M → D n ≤ k → D n ≤ j → ft_hit A P k n = ft_hit A P j n
  | 0, j, n, hn, h1, h2 => by
    by_cases e : n = 0
    · rw [e, ft_hit_0, ft_hit_0]
    · have := (ok.2.2.2.1 n (by omega) hn).2.2.1
      omega
  | k + 1, j, n, hn, h1, h2 => by
    by_cases e : n = 0
    · rw [e, ft_hit_0, ft_hit_0]
    · have h3 := ok.2.2.2.1 n (by omega) hn
      obtain ⟨i, rfl⟩ : ∃ i, j = i + 1 := ⟨j - 1, by omega⟩
      rw [ft_hit_s e, ft_hit_s e, ft_hit_st ok k i (A n) (by omega) (by omega) (by omega)]
theorem ft_hit_eq {M : Nat} {F A D : Nat → Nat} {P : Nat → Bool} {n : Nat} (ok : ft_ok M F A D) (h1 : 1 ≤ n) (h2 : n ≤ M) : ft_hit A P 8 n = (P n || ft_hit A P 8 (A n)) := by
  have h3 := ok.2.2.2.1 n h1 h2
  rw [ft_hit_s (show n ≠ 0 by omega), ft_hit_st ok 7 8 (A n) (by omega) (by omega) (by omega)]
/-- the topmost marked nodes -/
def ft_top (A : Nat → Nat) (P : Nat → Bool) (n : Nat) : Bool := P n && !(ft_hit A P 8 (A n))
theorem ft_master {M : Nat} {F A D O T : Nat → Nat} {P : Nat → Bool} (ok : ft_ok M F A D) (h : ft_w0 M A O T) : ft_on (ft_top A P) T M = ft_on (ft_hit A P 8) O M := by
  have e := ft_sum_id ok h (ft_hit A P 8)
  have e1 : ft_on (ft_hit A P 8) T M = ft_on (ft_top A P) T M + ft_on (fun c => ft_hit A P 8 (A c)) T M := by
    have := ft_s_add (fun n => if ft_top A P n = true then T n else 0) (fun n => if ft_hit A P 8 (A n) = true then T n else 0) M
    refine Eq.trans (ft_s_congr M (fun n h1 h2 => ?_)) this
    show (if ft_hit A P 8 n = true then T n else 0) = (if (P n && !(ft_hit A P 8 (A n))) = true then T n else 0) + (if ft_hit A P 8 (A n) = true then T n else 0)
    rw [ft_hit_eq ok h1 h2]
    cases P n <;> cases ft_hit A P 8 (A n) <;> simp
  rw [e1, ft_hit_0] at e
  have e2 : (if false = true then T 0 else 0) = 0 := rfl
  have e3 : (if false = true then O 0 else 0) = 0 := rfl
  rw [e2, e3] at e
  omega
def ft_pf (F : Nat → Nat) (f : Nat) : Nat → Bool := fun n => decide (F n = f)
def ft_pe (F A : Nat → Nat) (c f : Nat) : Nat → Bool := fun n => decide (F n = f) && decide (F (A n) = c)
/-- what the methods answer -/
def ft_ex (F O : Nat → Nat) (M f : Nat) : Nat := ft_s (fun n => if F n = f then O n else 0) M
def ft_in (F A T : Nat → Nat) (M f : Nat) : Nat := ft_s (fun n => if ft_top A (ft_pf F f) n = true then T n else 0) M
def ft_ed (F A T : Nat → Nat) (M c f : Nat) : Nat := ft_s (fun n => if ft_top A (ft_pe F A c f) n = true then T n else 0) M
theorem ft_in_eq {M f : Nat} {F A D O T : Nat → Nat} (ok : ft_ok M F A D) (h : ft_w0 M A O T) : ft_in F A T M f = ft_on (ft_hit A (ft_pf F f) 8) O M := ft_master ok h
theorem ft_ed_eq {M c f : Nat} {F A D O T : Nat → Nat} (ok : ft_ok M F A D) (h : ft_w0 M A O T) : ft_ed F A T M c f = ft_on (ft_hit A (ft_pe F A c f) 8) O M := ft_master ok h
theorem ft_ex_in {M f : Nat} {F A D O T : Nat → Nat} (ok : ft_ok M F A D) (h : ft_w0 M A O T) : ft_ex F O M f ≤ ft_in F A T M f := by
  rw [ft_in_eq ok h]
  refine ft_s_le M (fun n h1 h2 => ?_)
  by_cases e : F n = f
  · have e1 : ft_hit A (ft_pf F f) 8 n = true := by
      rw [ft_hit_eq ok h1 h2]
      simp [ft_pf, e]
    rw [if_pos e, if_pos e1]
    exact Nat.le_refl _
  · rw [if_neg e]
    exact Nat.zero_le _
theorem ft_in_le {M f : Nat} {F A D O T : Nat → Nat} (ok : ft_ok M F A D) (h : ft_w0 M A O T) : ft_in F A T M f ≤ T 0 := by
  rw [ft_in_eq ok h, ft_all ok h]
  exact Nat.le_trans ft_on_all (Nat.le_add_left _ _)
theorem ft_hit_pe {M c f : Nat} {F A D : Nat → Nat} (ok : ft_ok M F A D) (hc : c < 8) : ∀ k n, n ≤ k → n ≤ M → ft_hit A (ft_pe F A c f) 8 n = true → ft_hit A (ft_pf F f) 8 n = true ∧ ft_hit A (ft_pf F c) 8 n = true
  | 0, n, hk, hn, h => by
    have e : n = 0 := by omega
    rw [e, ft_hit_0] at h
    exact absurd h (by decide)
  | k + 1, n, hk, hn, h => by
    by_cases e : n = 0
    · rw [e, ft_hit_0] at h
      exact absurd h (by decide)
    · have h3 := ok.2.2.2.1 n (by omega) hn
      have q1 := ft_hit_eq (P := ft_pf F f) ok (n := n) (by omega) hn
      have q2 := ft_hit_eq (P := ft_pf F c) ok (n := n) (by omega) hn
      rw [ft_hit_eq ok (by omega) hn] at h
      rw [q1, q2]
      rcases Bool.or_eq_true_iff.mp h with z | z
      · have z1 : F n = f ∧ F (A n) = c := by
          simpa [ft_pe] using z
        have z2 : A n ≠ 0 := fun y => by
          have := z1.2
          rw [y, ok.2.1] at this
          omega
        have q3 := ft_hit_eq (P := ft_pf F c) ok (n := A n) (by omega) (by omega)
        rw [q3]
        simp [ft_pf, z1.1, z1.2]
      · have ih := ft_hit_pe ok hc k (A n) (by omega) (by omega) z
        rw [ih.1, ih.2]
        simp
theorem ft_ed_in {M c f : Nat} {F A D O T : Nat → Nat} (ok : ft_ok M F A D) (h : ft_w0 M A O T) (hc : c < 8) : ft_ed F A T M c f ≤ ft_in F A T M f ∧ ft_ed F A T M c f ≤ ft_in F A T M c := by
  rw [ft_in_eq ok h, ft_in_eq ok h, ft_ed_eq ok h]
  exact ⟨ft_on_le (fun n _ h2 z => (ft_hit_pe ok hc n n (Nat.le_refl _) h2 z).1), ft_on_le (fun n _ h2 z => (ft_hit_pe ok hc n n (Nat.le_refl _) h2 z).2)⟩
theorem ft_ex_sum {M : Nat} {F A D O T : Nat → Nat} (ok : ft_ok M F A D) (h : ft_w0 M A O T) : O 0 + ft_8 (ft_ex F O M) 8 = T 0 := by
  have e : ft_8 (ft_ex F O M) 8 = ft_s O M := ft_part M (fun c h1 h2 => (ok.2.2.2.1 c h1 h2).2.1)
  rw [e, ft_all ok h]
/-! ===== one node: its weight is its own and its children's ===== -/
theorem ft_c_sum {M p f : Nat} {F A D T : Nat → Nat} (ok : ft_ok M F A D) : ∀ k, k ≤ M → ft_v T (if ft_c F A p f k = 0 then none else some (ft_c F A p f k)) = ft_s (fun c => if F c = f then (if A c = p then T c else 0) else 0) k
  | 0, _ => rfl
  | k + 1, hk => by
    have d : ft_c F A p f (k + 1) = (if A (k + 1) = p ∧ F (k + 1) = f then k + 1 else ft_c F A p f k) := rfl
    have ih := ft_c_sum (p := p) (f := f) (T := T) ok k (by omega)
    rw [d]
    show _ = ft_s (fun c => if F c = f then (if A c = p then T c else 0) else 0) k + (if F (k + 1) = f then (if A (k + 1) = p then T (k + 1) else 0) else 0)
    by_cases e : A (k + 1) = p ∧ F (k + 1) = f
    · have z : ft_s (fun c => if F c = f then (if A c = p then T c else 0) else 0) k = 0 := ft_s_zero k (fun c h1 h2 => by
        show (if F c = f then (if A c = p then T c else 0) else 0) = 0
        by_cases e1 : F c = f
        · by_cases e2 : A c = p
          · have := ok.2.2.2.2 c (k + 1) h1 (by omega) (by omega) hk (by rw [e2, e.1]) (by rw [e1, e.2])
            omega
          · rw [if_pos e1, if_neg e2]
        · rw [if_neg e1])
      rw [z, if_pos e, if_neg (show ¬ k + 1 = 0 by omega), if_pos e.2, if_pos e.1]
      exact (Nat.zero_add _).symm
    · have z : (if F (k + 1) = f then (if A (k + 1) = p then T (k + 1) else 0) else 0) = 0 := by
        by_cases e1 : F (k + 1) = f
        · rw [if_pos e1, if_neg (fun y => e ⟨y, e1⟩)]
        · rw [if_neg e1]
      rw [z, if_neg e]
      exact ih
theorem ft_node {M : Nat} {F A D O T : Nat → Nat} (ok : ft_ok M F A D) (h : ft_w0 M A O T) : ∀ o : Option Nat, (∀ x, o = some x → x ≤ M) → ft_v O o + ft_8 (fun f => ft_v T (ft_nx F A M o f)) 8 = ft_v T o
  | none, _ => rfl
  | some x, hx => by
    have e : ft_8 (fun f => ft_v T (ft_nx F A M (some x) f)) 8 = ft_8 (fun f => ft_s (fun c => if F c = f then (if A c = x then T c else 0) else 0) M) 8 := ft_8_congr 8 (fun f _ => ft_c_sum ok M (Nat.le_refl _))
    rw [e, ft_part M (fun c h1 h2 => (ok.2.2.2.1 c h1 h2).2.1)]
    exact (h x (hx x rfl)).symm
theorem ft_full {M : Nat} {F A D O T : Nat → Nat} (ok : ft_ok M F A D) (h : ft_w0 M A O T) : ∀ o : Option Nat, (∀ x, o = some x → x ≤ M ∧ D x = 8) → ft_v O o = ft_v T o
  | none, _ => rfl
  | some x, hx => by
    obtain ⟨h1, h2⟩ := hx x rfl
    have e : ft_ch A T M x = 0 := ft_s_zero M (fun c c1 c2 => if_neg (fun z => by
      have h3 := ok.2.2.2.1 c c1 c2
      rw [z] at h3
      omega))
    have h4 := h x h1
    rw [e] at h4
    exact h4.symm
/-! ===== paths and deepest ===== -/
def ft_pg (T : Nat → Nat) (w : Nat) : Nat → Nat := fun n => if w ≤ T n then 1 else 0
def ft_pa (T : Nat → Nat) (M w : Nat) : Nat := ft_s (ft_pg T w) M
theorem ft_pa_le {T : Nat → Nat} {M v w : Nat} (h : v ≤ w) : ft_pa T M w ≤ ft_pa T M v := by
  refine ft_s_le M (fun n _ _ => ?_)
  show (if w ≤ T n then 1 else 0) ≤ (if v ≤ T n then 1 else 0)
  by_cases e : w ≤ T n
  · rw [if_pos e, if_pos (Nat.le_trans h e)]
    exact Nat.le_refl _
  · rw [if_neg e]
    exact Nat.zero_le _
theorem ft_pa_b {T : Nat → Nat} {w : Nat} : ∀ M, ft_pa T M w ≤ M
  | 0 => Nat.le_refl 0
  | k + 1 => by
    have h : ft_pa T k w ≤ k := ft_pa_b k
    have h2 : ft_pg T w (k + 1) ≤ 1 := by
      show (if w ≤ T (k + 1) then 1 else 0) ≤ 1
      by_cases e : w ≤ T (k + 1)
      · rw [if_pos e]
        exact Nat.le_refl _
      · rw [if_neg e]
        exact Nat.zero_le _
    exact Nat.add_le_add h h2
def ft_m (g : Nat → Nat) : Nat → Nat
  | 0 => 0
  | k + 1 => if g (k + 1) ≤ ft_m g k then ft_m g k else g (k + 1)
def ft_dg (D T : Nat → Nat) (w : Nat) : Nat → Nat := fun n => if w ≤ T n then D n else 0
theorem ft_m_le {g h : Nat → Nat} : ∀ k, (∀ n, 1 ≤ n → n ≤ k → g n ≤ h n) → ft_m g k ≤ ft_m h k
  | 0, _ => Nat.le_refl 0
  | k + 1, H => by
    have h1 := ft_m_le k (fun n h1 h2 => H n h1 (by omega))
    have h2 := H (k + 1) (by omega) (by omega)
    show (if g (k + 1) ≤ ft_m g k then ft_m g k else g (k + 1)) ≤ (if h (k + 1) ≤ ft_m h k then ft_m h k else h (k + 1))
    by_cases e1 : g (k + 1) ≤ ft_m g k
    · by_cases e2 : h (k + 1) ≤ ft_m h k
      · rw [if_pos e1, if_pos e2]
        omega
      · rw [if_pos e1, if_neg e2]
        omega
    · by_cases e2 : h (k + 1) ≤ ft_m h k
      · rw [if_neg e1, if_pos e2]
        omega
      · rw [if_neg e1, if_neg e2]
        omega
theorem ft_m_b {g : Nat → Nat} {b : Nat} : ∀ k, (∀ n, 1 ≤ n → n ≤ k → g n ≤ b) → ft_m g k ≤ b
  | 0, _ => Nat.zero_le _
  | k + 1, H => by
    have h1 := ft_m_b k (fun n h1 h2 => H n h1 (by omega))
    have h2 := H (k + 1) (by omega) (by omega)
    show (if g (k + 1) ≤ ft_m g k then ft_m g k else g (k + 1)) ≤ b
    by_cases e1 : g (k + 1) ≤ ft_m g k
    · rw [if_pos e1]
      exact h1
    · rw [if_neg e1]
      exact h2
theorem ft_dg_b {M w n : Nat} {F A D T : Nat → Nat} (ok : ft_ok M F A D) (h1 : 1 ≤ n) (h2 : n ≤ M) : ft_dg D T w n ≤ 8 := by
  show (if w ≤ T n then D n else 0) ≤ 8
  by_cases e : w ≤ T n
  · rw [if_pos e]
    exact (ok.2.2.2.1 n h1 h2).2.2.2
  · rw [if_neg e]
    exact Nat.zero_le _
theorem ft_dg_le {D T : Nat → Nat} {v w n : Nat} (h : v ≤ w) : ft_dg D T w n ≤ ft_dg D T v n := by
  show (if w ≤ T n then D n else 0) ≤ (if v ≤ T n then D n else 0)
  by_cases e : w ≤ T n
  · rw [if_pos e, if_pos (Nat.le_trans h e)]
    exact Nat.le_refl _
  · rw [if_neg e]
    exact Nat.zero_le _
end
section
/-! ===== the state against the picture ===== -/
def ft_ar (M : Nat) (F A : Nat → Nat) (a2 a3 a4 a5 : Nat → Int32) : Prop :=
  a2 0 = -1 ∧ (∀ n, 1 ≤ n → n ≤ M → a2 n = nI (F n)) ∧ (∀ n, 1 ≤ n → n ≤ M → a3 n = nI (A n)) ∧ (∀ n, n ≤ 320 → a4 n = nI (ft_l A n M)) ∧ (∀ n, 1 ≤ n → n ≤ M → a5 n = nI (ft_l A (A n) (n - 1)))
def ft_we (M : Nat) (O T : Nat → Nat) (a6 a7 : Nat → Int32) : Prop :=
  (∀ n, n ≤ 320 → a6 n = nI (O n)) ∧ (∀ n, n ≤ 320 → a7 n = nI (T n)) ∧ (∀ n, M < n → O n = 0 ∧ T n = 0)
def ft_sk (dd : Nat) (st : Nat → Nat) (a1 : Nat → Int32) : Prop := dd ≤ 8 ∧ ∀ i, i < dd → a1 i = nI (st i) ∧ st i < 8
def ft_i : Option Nat → Int32
  | none => -1
  | some x => nI x
def ft_b : Bool → Int32
  | true => 1
  | false => 0
theorem ft_m1 : ∀ c, c < 8 → ¬ (-1 : Int32) = nI c := by decide
theorem ft_acc {g : Nat → Nat} {k v : Nat} {x : Int32} (hx : x = nI v) (hv : g (k + 1) = v) : nI (ft_s g k) + x = nI (ft_s g (k + 1)) := by
  rw [hx, nI_add, ← hv]
  rfl
section
variable {M : Nat} {F A D O T : Nat → Nat} {d s N : Int32} {a1 a2 a3 a4 a5 a6 a7 : Nat → Int32} {post : Int32 → Prop}
theorem ft_a2x (ok : ft_ok M F A D) (ar : ft_ar M F A a2 a3 a4 a5) {m c : Nat} {x y : Int32} (hm : m ≤ M) (hc : c < 8) (hx : x = nI m) (hy : y = nI c) : a2 x.toNatClampNeg = y ↔ F m = c := by
  have hM := ok.1
  subst hx
  subst hy
  rw [nI_clamp (by omega)]
  by_cases e : m = 0
  · rw [e, ar.1, ok.2.1]
    exact ⟨fun z => absurd z (ft_m1 c hc), fun z => absurd z (by omega)⟩
  · have h := (ok.2.2.2.1 m (by omega) hm).2.1
    rw [ar.2.1 m (by omega) hm, nI_eq (by omega) (by omega)]
theorem ft_a3x (ok : ft_ok M F A D) (ar : ft_ar M F A a2 a3 a4 a5) {m : Nat} {x : Int32} (h1 : 1 ≤ m) (hm : m ≤ M) (hx : x = nI m) : a3 x.toNatClampNeg = nI (A m) := by
  have hM := ok.1
  subst hx
  rw [nI_clamp (by omega)]
  exact ar.2.2.1 m h1 hm
theorem ft_a4x (ok : ft_ok M F A D) (ar : ft_ar M F A a2 a3 a4 a5) {m : Nat} {x : Int32} (hm : m ≤ M) (hx : x = nI m) : a4 x.toNatClampNeg = nI (ft_l A m M) := by
  have hM := ok.1
  subst hx
  rw [nI_clamp (by omega)]
  exact ar.2.2.2.1 m (by omega)
theorem ft_a5x (ok : ft_ok M F A D) (ar : ft_ar M F A a2 a3 a4 a5) {m : Nat} {x : Int32} (h1 : 1 ≤ m) (hm : m ≤ M) (hx : x = nI m) : a5 x.toNatClampNeg = nI (ft_l A (A m) (m - 1)) := by
  have hM := ok.1
  subst hx
  rw [nI_clamp (by omega)]
  exact ar.2.2.2.2 m h1 hm
theorem ft_a6x (we : ft_we M O T a6 a7) {m : Nat} {x : Int32} (hm : m ≤ 320) (hx : x = nI m) : a6 x.toNatClampNeg = nI (O m) := by
  subst hx
  rw [nI_clamp (by omega)]
  exact we.1 m hm
theorem ft_a7x (we : ft_we M O T a6 a7) {m : Nat} {x : Int32} (hm : m ≤ 320) (hx : x = nI m) : a7 x.toNatClampNeg = nI (T m) := by
  subst hx
  rw [nI_clamp (by omega)]
  exact we.2.1 m hm
/-! ===== childWith, nodeOfStack, own, total ===== -/
theorem ft_cw7 (ok : ft_ok M F A D) (ar : ft_ar M F A a2 a3 a4 a5) {p f : Nat} (hf : f < 8) : ∀ k n, k ≤ M → k < n → post (nI (ft_c F A p f k)) → wX_childWith_7 post (nI f) d s N a1 a2 a3 a4 a5 a6 a7 n (nI (ft_l A p k))
  | 0, n, _, hn, hp => by
    obtain ⟨m, rfl⟩ : ∃ m, n = m + 1 := ⟨n - 1, by omega⟩
    exact br_t (show (0 : Int32) ≤ 0 by decide) hp
  | k + 1, n, hk, hn, hp => by
    obtain ⟨m, rfl⟩ : ∃ m, n = m + 1 := ⟨n - 1, by omega⟩
    have hM := ok.1
    have dl : ft_l A p (k + 1) = if A (k + 1) = p then k + 1 else ft_l A p k := rfl
    have dc : ft_c F A p f (k + 1) = if A (k + 1) = p ∧ F (k + 1) = f then k + 1 else ft_c F A p f k := rfl
    by_cases e : A (k + 1) = p
    · rw [dl, if_pos e]
      refine br_f (nI_nle (by omega) (by omega)) ⟨pk_in (k + 1) 321 (by omega), ek_if (ft_a2x ok ar hk hf rfl rfl) (fun z => ?_) (fun z => ⟨pk_in (k + 1) 321 (by omega), nm_r (e' := nI (ft_l A p k)) ?_ ?_⟩)⟩
      · rw [dc, if_pos ⟨e, z⟩] at hp
        exact hp
      · rw [ft_a5x ok ar (by omega) hk rfl, e]
        rfl
      · exact ft_cw7 ok ar hf k m (by omega) (by omega) (by rw [dc, if_neg (fun y => z y.2)] at hp; exact hp)
    · rw [dl, if_neg e]
      exact ft_cw7 ok ar hf k (m + 1) (by omega) (by omega) (by rw [dc, if_neg (fun y => e y.1)] at hp; exact hp)
theorem ft_cw (ok : ft_ok M F A D) (ar : ft_ar M F A a2 a3 a4 a5) {p f : Nat} {x y : Int32} (hpM : p ≤ M) (hf : f < 8) (hx : x = nI p) (hy : y = nI f) (h : post (nI (ft_c F A p f M))) : wpX_childWith post (d, s, N, a1, a2, a3, a4, a5, a6, a7) x y := by
  have hM := ok.1
  subst hy
  exact ⟨pk_in p 321 (by omega) hx, nm_r (ft_a4x ok ar hpM hx) ⟨M + 1, ft_cw7 ok ar hf M (M + 1) (by omega) (by omega) h⟩⟩
theorem ft_ns4 (ok : ft_ok M F A D) (ar : ft_ar M F A a2 a3 a4 a5) {dd : Nat} {st : Nat → Nat} (sk : ft_sk dd st a1) (hp : post (ft_i (ft_nd F A M st dd))) : ∀ j k x n, k + j = dd → j < n → ft_nd F A M st k = some x → wX_nodeOfStack_4 post (nI dd) s N a1 a2 a3 a4 a5 a6 a7 n (nI x) (nI k)
  | 0, k, x, n, h, hn, hx => by
    obtain ⟨m, rfl⟩ : ∃ m, n = m + 1 := ⟨n - 1, by omega⟩
    have hd := sk.1
    have e : dd = k := by omega
    rw [e, hx] at hp
    exact pk_le dd k (fun _ => hp) (fun z => absurd z (by omega))
  | j + 1, k, x, n, h, hn, hx => by
    obtain ⟨m, rfl⟩ : ∃ m, n = m + 1 := ⟨n - 1, by omega⟩
    have hM := ok.1
    have hd := sk.1
    have hxM := (ft_nd_in ok k x hx).1
    have hs := sk.2 k (by omega)
    have hcl := ft_c_le F A x (st k) M
    have nd : ft_nd F A M st (k + 1) = if ft_c F A x (st k) M = 0 then none else some (ft_c F A x (st k) M) := by
      show ft_nx F A M (ft_nd F A M st k) (st k) = _
      rw [hx]
      rfl
    refine pk_le dd k (fun z => absurd z (by omega)) (fun _ => ⟨pk_in k 8 (by omega), ft_cw ok ar hxM hs.2 rfl (by rw [nI_clamp (by omega)]; exact hs.1) ?_⟩)
    refine pk_eq (ft_c F A x (st k) M) 0 (fun z => ?_) (fun z => nm_r (nI_1 k) (ft_ns4 ok ar sk hp j (k + 1) _ m (by omega) (by omega) ?_))
    · rw [if_pos z] at nd
      have h2 := ft_nd_none nd j
      rw [show k + 1 + j = dd by omega] at h2
      rw [h2] at hp
      exact hp
    · rw [nd, if_neg z]
theorem ft_ns (ok : ft_ok M F A D) (ar : ft_ar M F A a2 a3 a4 a5) {dd : Nat} {st : Nat → Nat} (sk : ft_sk dd st a1) (hp : post (ft_i (ft_nd F A M st dd))) : wpX_nodeOfStack post (nI dd, s, N, a1, a2, a3, a4, a5, a6, a7) :=
  ⟨dd + 1, ft_ns4 ok ar sk hp dd 0 0 (dd + 1) (by omega) (by omega) rfl⟩
theorem ft_own (ok : ft_ok M F A D) (ar : ft_ar M F A a2 a3 a4 a5) (we : ft_we M O T a6 a7) {dd : Nat} {st : Nat → Nat} (sk : ft_sk dd st a1) (hp : post (nI (ft_v O (ft_nd F A M st dd)))) : wpX_own post (nI dd, s, N, a1, a2, a3, a4, a5, a6, a7) := by
  have hM := ok.1
  refine ft_ns ok ar sk ?_
  cases ho : ft_nd F A M st dd with
  | none =>
    rw [ho] at hp
    exact br_f (show ¬ (0 : Int32) ≤ -1 by decide) hp
  | some x =>
    rw [ho] at hp
    have hx := (ft_nd_in ok dd x ho).1
    exact br_t (nI_pos' (show x < 2 ^ 31 by omega)) ⟨pk_in x 321 (by omega), by rw [show ft_i (some x) = nI x from rfl, ft_a6x we (m := x) (by omega) rfl]; exact hp⟩
theorem ft_total (ok : ft_ok M F A D) (ar : ft_ar M F A a2 a3 a4 a5) (we : ft_we M O T a6 a7) {dd : Nat} {st : Nat → Nat} (sk : ft_sk dd st a1) (hp : post (nI (ft_v T (ft_nd F A M st dd)))) : wpX_total post (nI dd, s, N, a1, a2, a3, a4, a5, a6, a7) := by
  have hM := ok.1
  refine ft_ns ok ar sk ?_
  cases ho : ft_nd F A M st dd with
  | none =>
    rw [ho] at hp
    exact br_f (show ¬ (0 : Int32) ≤ -1 by decide) hp
  | some x =>
    rw [ho] at hp
    have hx := (ft_nd_in ok dd x ho).1
    exact br_t (nI_pos' (show x < 2 ^ 31 by omega)) ⟨pk_in x 321 (by omega), by rw [show ft_i (some x) = nI x from rfl, ft_a7x we (m := x) (by omega) rfl]; exact hp⟩
/-- at full depth hottest answers -1 -/
theorem ft_hot (ok : ft_ok M F A D) (ar : ft_ar M F A a2 a3 a4 a5) {st : Nat → Nat} (sk : ft_sk 8 st a1) (hp : post (-1)) : wpX_hottest post (nI 8, s, N, a1, a2, a3, a4, a5, a6, a7) := by
  have hM := ok.1
  refine ft_ns ok ar sk ?_
  cases ho : ft_nd F A M st 8 with
  | none => exact br_t (show (-1 : Int32) < 0 by decide) hp
  | some x =>
    have hx := (ft_nd_in ok 8 x ho).1
    exact br_f (nI_pos (show x < 2 ^ 31 by omega)) (br_t rfl hp)
/-! ===== paths, depthOf, deepest ===== -/
theorem ft_p16 (ok : ft_ok M F A D) (we : ft_we M O T a6 a7) (hT : ∀ n, n ≤ M → T n < 2 ^ 31) {w : Nat} (hw : w < 2 ^ 31) (hp : post (nI (ft_pa T M w))) : ∀ j k n, k + j = M → j < n → wX_paths_16 post (nI w) d s (nI (M + 1)) a1 a2 a3 a4 a5 a6 a7 n (nI (ft_s (ft_pg T w) k)) (nI (k + 1))
  | 0, k, n, h, hn => by
    obtain ⟨m, rfl⟩ : ∃ m, n = m + 1 := ⟨n - 1, by omega⟩
    have hM := ok.1
    have e : k = M := by omega
    rw [e]
    exact pk_le (M + 1) (M + 1) (fun _ => hp) (fun z => absurd z (by omega))
  | j + 1, k, n, h, hn => by
    obtain ⟨m, rfl⟩ : ∃ m, n = m + 1 := ⟨n - 1, by omega⟩
    have hM := ok.1
    have ih := ft_p16 ok we hT hw hp j (k + 1) m (by omega) (by omega)
    have ht := hT (k + 1) (by omega)
    exact pk_le (M + 1) (k + 1) (fun z => absurd z (by omega)) (fun _ => ⟨pk_in (k + 1) 321 (by omega), pk_lt (T (k + 1)) w
      (fun z => nm_r (ft_acc (g := ft_pg T w) (v := 0) rfl (if_neg (by omega))) (nm_r (nI_1 _) ih))
      (fun z => nm_r (ft_acc (g := ft_pg T w) (v := 1) rfl (if_pos z)) (nm_r (nI_1 _) ih)) (ft_a7x we (by omega) rfl)⟩)
theorem ft_paths (ok : ft_ok M F A D) (we : ft_we M O T a6 a7) (hT : ∀ n, n ≤ M → T n < 2 ^ 31) {w : Nat} {x : Int32} (hw : w < 2 ^ 31) (hx : x = nI w) (hp : post (nI (ft_pa T M (max 1 w)))) : wpX_paths post (d, s, nI (M + 1), a1, a2, a3, a4, a5, a6, a7) x := by
  subst hx
  refine pk_le 1 w (fun z => ⟨M + 1, ?_⟩) (fun z => ⟨M + 1, ?_⟩)
  · rw [show max 1 w = w by omega] at hp
    exact ft_p16 ok we hT hw hp M 0 (M + 1) (by omega) (by omega)
  · rw [show max 1 w = 1 by omega] at hp
    exact ft_p16 ok we hT (w := 1) (by omega) hp M 0 (M + 1) (by omega) (by omega)
theorem ft_do7 (ok : ft_ok M F A D) (ar : ft_ar M F A a2 a3 a4 a5) {D0 : Nat} (hD : D0 ≤ 8) (hp : post (nI D0)) : ∀ e j m n, D m = e → e + j = D0 → m ≤ M → e < n → wX_depthOf_7 post d s N a1 a2 a3 a4 a5 a6 a7 n (nI j) (nI m) (nI j)
  | 0, j, m, n, h1, h2, hm, hn => by
    obtain ⟨i, rfl⟩ : ∃ i, n = i + 1 := ⟨n - 1, by omega⟩
    have hM := ok.1
    have e : D0 = j := by omega
    rw [e] at hp
    have e0 : m = 0 := by
      rcases Nat.eq_zero_or_pos m with z | z
      · exact z
      · have := (ok.2.2.2.1 m z hm).2.2.1
        omega
    exact pk_le 8 j (fun _ => hp) (fun _ => pk_le m 0 (fun _ => hp) (fun z => absurd z (by omega)))
  | e + 1, j, m, n, h1, h2, hm, hn => by
    obtain ⟨i, rfl⟩ : ∃ i, n = i + 1 := ⟨n - 1, by omega⟩
    have hM := ok.1
    have e0 : 1 ≤ m := by
      rcases Nat.eq_zero_or_pos m with z | z
      · have := ok.2.2.1
        rw [z] at h1
        omega
      · exact z
    have hA := ok.2.2.2.1 m e0 hm
    have ih := ft_do7 ok ar hD hp e (j + 1) (A m) i (by omega) (by omega) (by omega) (by omega)
    exact pk_le 8 j (fun z => absurd z (by omega)) (fun _ => pk_le m 0 (fun z => absurd z (by omega)) (fun _ => nm_r (nI_1 j) ⟨pk_in m 321 (by omega), nm_r (ft_a3x ok ar e0 hm rfl) (nm_r (nI_1 j) ih)⟩))
theorem ft_do (ok : ft_ok M F A D) (ar : ft_ar M F A a2 a3 a4 a5) {m : Nat} (h1 : 1 ≤ m) (hm : m ≤ M) (hp : post (nI (D m))) : wpX_depthOf post (d, s, N, a1, a2, a3, a4, a5, a6, a7) (nI m) :=
  ⟨D m + 1, ft_do7 ok ar (ok.2.2.2.1 m h1 hm).2.2.2 hp (D m) 0 m (D m + 1) rfl rfl hm (by omega)⟩
theorem ft_d46 {J : Int32 → Int32 → Prop} {g : Nat → Nat} {k : Nat} {x2 z0 : Int32} (h1 : ft_m g k ≤ 8) (h2 : g (k + 1) ≤ 8) (hk : k < 1000) (hz : z0 = nI (g (k + 1))) (h : J (nI (ft_m g (k + 1))) (nI (k + 1 + 1))) : wX_deepest_46 post J x2 (nI (ft_m g k)) (nI (k + 1)) z0 d s N a1 a2 a3 a4 a5 a6 a7 := by
  have dm : ft_m g (k + 1) = if g (k + 1) ≤ ft_m g k then ft_m g k else g (k + 1) := rfl
  subst hz
  refine pk_le (g (k + 1)) (ft_m g k) (fun z => nm_r (nI_1 _) ?_) (fun z => nm_r (nI_1 _) ?_)
  · rw [dm, if_pos z] at h
    exact h
  · rw [dm, if_neg (by omega)] at h
    exact h
theorem ft_d16 (ok : ft_ok M F A D) (ar : ft_ar M F A a2 a3 a4 a5) (we : ft_we M O T a6 a7) (hT : ∀ n, n ≤ M → T n < 2 ^ 31) {w : Nat} (hw : w < 2 ^ 31) (hp : post (nI (ft_m (ft_dg D T w) M))) : ∀ j k n, k + j = M → j < n → wX_deepest_16 post (nI w) d s (nI (M + 1)) a1 a2 a3 a4 a5 a6 a7 n (nI (ft_m (ft_dg D T w) k)) (nI (k + 1))
  | 0, k, n, h, hn => by
    obtain ⟨m, rfl⟩ : ∃ m, n = m + 1 := ⟨n - 1, by omega⟩
    have hM := ok.1
    have e : k = M := by omega
    rw [e]
    exact pk_le (M + 1) (M + 1) (fun _ => hp) (fun z => absurd z (by omega))
  | j + 1, k, n, h, hn => by
    obtain ⟨m, rfl⟩ : ∃ m, n = m + 1 := ⟨n - 1, by omega⟩
    have hM := ok.1
    have ih := ft_d16 ok ar we hT hw hp j (k + 1) m (by omega) (by omega)
    have ht := hT (k + 1) (by omega)
    have b1 : ft_m (ft_dg D T w) k ≤ 8 := ft_m_b k (fun n h1 h2 => ft_dg_b ok h1 (by omega))
    have b2 : ft_dg D T w (k + 1) ≤ 8 := ft_dg_b ok (by omega) (by omega)
    refine pk_le (M + 1) (k + 1) (fun z => absurd z (by omega)) (fun _ => ⟨pk_in (k + 1) 321 (by omega), pk_lt (T (k + 1)) w (fun z => ?_) (fun z => ?_) (ft_a7x we (by omega) rfl)⟩)
    · have g0 : ft_dg D T w (k + 1) = 0 := if_neg (by omega)
      exact ft_d46 (J := wX_deepest_16 post (nI w) d s (nI (M + 1)) a1 a2 a3 a4 a5 a6 a7 m) b1 b2 (by omega) (by rw [g0]; rfl) ih
    · have g0 : ft_dg D T w (k + 1) = D (k + 1) := if_pos z
      refine ft_do ok ar (by omega) (by omega) ?_
      exact ft_d46 (J := wX_deepest_16 post (nI w) d s (nI (M + 1)) a1 a2 a3 a4 a5 a6 a7 m) b1 b2 (by omega) (by rw [g0]) ih
theorem ft_deepest (ok : ft_ok M F A D) (ar : ft_ar M F A a2 a3 a4 a5) (we : ft_we M O T a6 a7) (hT : ∀ n, n ≤ M → T n < 2 ^ 31) {w : Nat} {x : Int32} (hw : w < 2 ^ 31) (hx : x = nI w) (hp : post (nI (ft_m (ft_dg D T (max 1 w)) M))) : wpX_deepest post (d, s, nI (M + 1), a1, a2, a3, a4, a5, a6, a7) x := by
  subst hx
  refine pk_le 1 w (fun z => ⟨M + 1, ?_⟩) (fun z => ⟨M + 1, ?_⟩)
  · rw [show max 1 w = w by omega] at hp
    exact ft_d16 ok ar we hT hw hp M 0 (M + 1) (by omega) (by omega)
  · rw [show max 1 w = 1 by omega] at hp
    exact ft_d16 ok ar we hT (w := 1) (by omega) hp M 0 (M + 1) (by omega) (by omega)
end
end
section
section
variable {M : Nat} {F A D O T : Nat → Nat} {d s N : Int32} {a1 a2 a3 a4 a5 a6 a7 : Nat → Int32} {post : Int32 → Prop}
theorem ft_isf {f : Nat} {x : Int32} (hf : f < 8) (hx : x = nI f) (hp : post 1) : wpX_isFunction post () x :=
  pk_lt f 0 (fun z => absurd z (by omega)) (fun _ => pk_lt 7 f (fun z => absurd z (by omega)) (fun _ => hp) rfl hx) hx
theorem ft_ex13 (ok : ft_ok M F A D) (ar : ft_ar M F A a2 a3 a4 a5) (we : ft_we M O T a6 a7) {f : Nat} (hf : f < 8) (hp : post (nI (ft_ex F O M f))) : ∀ j k n, k + j = M → j < n → wX_exclusive_13 post (nI f) d s (nI (M + 1)) a1 a2 a3 a4 a5 a6 a7 n (nI (ft_s (fun n => if F n = f then O n else 0) k)) (nI (k + 1))
  | 0, k, n, h, hn => by
    obtain ⟨m, rfl⟩ : ∃ m, n = m + 1 := ⟨n - 1, by omega⟩
    have hM := ok.1
    have e : k = M := by omega
    rw [e]
    exact pk_le (M + 1) (M + 1) (fun _ => hp) (fun z => absurd z (by omega))
  | j + 1, k, n, h, hn => by
    obtain ⟨m, rfl⟩ : ∃ m, n = m + 1 := ⟨n - 1, by omega⟩
    have hM := ok.1
    have ih := ft_ex13 ok ar we hf hp j (k + 1) m (by omega) (by omega)
    exact pk_le (M + 1) (k + 1) (fun z => absurd z (by omega)) (fun _ => ⟨pk_in (k + 1) 321 (by omega), ek_if (ft_a2x ok ar (m := k + 1) (by omega) hf rfl rfl)
      (fun z => ⟨pk_in (k + 1) 321 (by omega), nm_r (ft_acc (g := fun n => if F n = f then O n else 0) (ft_a6x we (by omega) rfl) (if_pos z)) (nm_r (nI_1 _) ih)⟩)
      (fun z => nm_r (ft_acc (g := fun n => if F n = f then O n else 0) (v := 0) rfl (if_neg z)) (nm_r (nI_1 _) ih))⟩)
theorem ft_exclusive (ok : ft_ok M F A D) (ar : ft_ar M F A a2 a3 a4 a5) (we : ft_we M O T a6 a7) {f : Nat} (hf : f < 8) (hp : post (nI (ft_ex F O M f))) : wpX_exclusive post (d, s, nI (M + 1), a1, a2, a3, a4, a5, a6, a7) (nI f) := by
  unfold wpX_exclusive
  exact ft_isf hf rfl (br_f (show ¬ (1 : Int32) = 0 by decide) ⟨M + 1, ft_ex13 ok ar we hf hp M 0 (M + 1) (by omega) (by omega)⟩)
/-! ===== standsAbove ===== -/
theorem ft_sa11 (ok : ft_ok M F A D) (ar : ft_ar M F A a2 a3 a4 a5) {P : Nat → Bool} {x2 : Int32} {f : Nat} (hf : f < 8) (hP : ∀ m, F m ≠ f → P m = false)
    (hQ : ∀ m, F m = f → (x2 < 0 ∧ P m = true) ∨ (¬ x2 < 0 ∧ ∃ c, c < 8 ∧ x2 = nI c ∧ P m = decide (F (A m) = c))) : ∀ k j m n, k + j = 8 → k < n → m ≤ M → post (ft_b (ft_hit A P k m)) → wX_standsAbove_11 post x2 (nI f) d s N a1 a2 a3 a4 a5 a6 a7 n (nI m) (nI j)
  | 0, j, m, n, h, hn, hm, hp => by
    obtain ⟨i, rfl⟩ : ∃ i, n = i + 1 := ⟨n - 1, by omega⟩
    exact pk_le 8 j (fun _ => hp) (fun z => absurd z (by omega))
  | k + 1, j, m, n, h, hn, hm, hp => by
    obtain ⟨i, rfl⟩ : ∃ i, n = i + 1 := ⟨n - 1, by omega⟩
    have hM := ok.1
    have up : ∀ z : 1 ≤ m, P m = false → wX_standsAbove_11 post x2 (nI f) d s N a1 a2 a3 a4 a5 a6 a7 i (nI (A m)) (nI (j + 1)) := by
      intro z hb
      have hA := ok.2.2.2.1 m z hm
      refine ft_sa11 ok ar hf hP hQ k (j + 1) (A m) i (by omega) (by omega) (by omega) ?_
      rw [ft_hit_s (show m ≠ 0 by omega), hb, Bool.false_or] at hp
      exact hp
    refine pk_le 8 j (fun z => absurd z (by omega)) (fun _ => pk_le m 0 (fun z => ?_) (fun z => ⟨pk_in m 321 (by omega), ek_if (ft_a2x ok ar hm hf rfl rfl) (fun e => ?_) (fun e => ⟨pk_in m 321 (by omega), nm_r (ft_a3x ok ar (by omega) hm rfl) (nm_r (nI_1 j) (up (by omega) (hP m e)))⟩)⟩))
    · rw [show m = 0 by omega, ft_hit_0] at hp
      exact hp
    · rw [ft_hit_s (show m ≠ 0 by omega)] at hp
      have hA := ok.2.2.2.1 m (by omega) hm
      rcases hQ m e with ⟨q1, q2⟩ | ⟨q1, c, q2, q3, q4⟩
      · rw [q2, Bool.true_or] at hp
        exact br_t q1 hp
      · refine br_f q1 ⟨pk_in m 321 (by omega), pk_in (A m) 321 (by omega) (ft_a3x ok ar (by omega) hm rfl), ek_if (ft_a2x ok ar (m := A m) (by omega) q2 (ft_a3x ok ar (by omega) hm rfl) q3) (fun e2 => ?_) (fun e2 => ⟨pk_in m 321 (by omega), nm_r (ft_a3x ok ar (by omega) hm rfl) (nm_r (nI_1 j) (up (by omega) ?_))⟩)⟩
        · rw [q4, decide_eq_true e2, Bool.true_or] at hp
          exact hp
        · rw [q4]
          exact decide_eq_false e2
theorem ft_sa (ok : ft_ok M F A D) (ar : ft_ar M F A a2 a3 a4 a5) {P : Nat → Bool} {x2 : Int32} {f m : Nat} (hf : f < 8) (hP : ∀ m, F m ≠ f → P m = false)
    (hQ : ∀ m, F m = f → (x2 < 0 ∧ P m = true) ∨ (¬ x2 < 0 ∧ ∃ c, c < 8 ∧ x2 = nI c ∧ P m = decide (F (A m) = c))) (h1 : 1 ≤ m) (hm : m ≤ M) (hp : post (ft_b (ft_hit A P 8 (A m)))) : wpX_standsAbove post (d, s, N, a1, a2, a3, a4, a5, a6, a7) (nI m) x2 (nI f) := by
  have hM := ok.1
  have hA := ok.2.2.2.1 m h1 hm
  exact ⟨pk_in m 321 (by omega), nm_r (ft_a3x ok ar h1 hm rfl) ⟨9, ft_sa11 ok ar hf hP hQ 8 0 (A m) 9 (by omega) (by omega) (by omega) hp⟩⟩
/-! ===== inclusive ===== -/
theorem ft_in13 (ok : ft_ok M F A D) (ar : ft_ar M F A a2 a3 a4 a5) (we : ft_we M O T a6 a7) {f : Nat} (hf : f < 8) (hp : post (nI (ft_in F A T M f))) : ∀ j k n, k + j = M → j < n → wX_inclusive_13 post (nI f) d s (nI (M + 1)) a1 a2 a3 a4 a5 a6 a7 n (nI (ft_s (fun n => if ft_top A (ft_pf F f) n = true then T n else 0) k)) (nI (k + 1))
  | 0, k, n, h, hn => by
    obtain ⟨m, rfl⟩ : ∃ m, n = m + 1 := ⟨n - 1, by omega⟩
    have hM := ok.1
    have e : k = M := by omega
    rw [e]
    exact pk_le (M + 1) (M + 1) (fun _ => hp) (fun z => absurd z (by omega))
  | j + 1, k, n, h, hn => by
    obtain ⟨m, rfl⟩ : ∃ m, n = m + 1 := ⟨n - 1, by omega⟩
    have hM := ok.1
    have ih := ft_in13 ok ar we hf hp j (k + 1) m (by omega) (by omega)
    have tp : ft_top A (ft_pf F f) (k + 1) = (decide (F (k + 1) = f) && !(ft_hit A (ft_pf F f) 8 (A (k + 1)))) := rfl
    refine pk_le (M + 1) (k + 1) (fun z => absurd z (by omega)) (fun _ => ⟨pk_in (k + 1) 321 (by omega), ek_if (ft_a2x ok ar (m := k + 1) (by omega) hf rfl rfl) (fun z => ?_) (fun z => ?_)⟩)
    · refine ft_sa ok ar (P := ft_pf F f) hf (fun m e => decide_eq_false e) (fun m e => Or.inl ⟨by decide, decide_eq_true e⟩) (by omega) (by omega) ?_
      rw [decide_eq_true z, Bool.true_and] at tp
      cases hb : ft_hit A (ft_pf F f) 8 (A (k + 1)) with
      | false =>
        rw [hb] at tp
        exact br_t rfl ⟨pk_in (k + 1) 321 (by omega), nm_r (ft_acc (g := fun n => if ft_top A (ft_pf F f) n = true then T n else 0) (ft_a7x we (by omega) rfl) (if_pos tp)) (nm_r (nI_1 _) ih)⟩
      | true =>
        rw [hb] at tp
        exact br_f (show ¬ (1 : Int32) = 0 by decide) (nm_r (ft_acc (g := fun n => if ft_top A (ft_pf F f) n = true then T n else 0) (v := 0) rfl (if_neg (by rw [tp]; decide))) (nm_r (nI_1 _) ih))
    · rw [decide_eq_false z, Bool.false_and] at tp
      exact nm_r (ft_acc (g := fun n => if ft_top A (ft_pf F f) n = true then T n else 0) (v := 0) rfl (if_neg (by rw [tp]; decide))) (nm_r (nI_1 _) ih)
theorem ft_inclusive (ok : ft_ok M F A D) (ar : ft_ar M F A a2 a3 a4 a5) (we : ft_we M O T a6 a7) {f : Nat} (hf : f < 8) (hp : post (nI (ft_in F A T M f))) : wpX_inclusive post (d, s, nI (M + 1), a1, a2, a3, a4, a5, a6, a7) (nI f) := by
  unfold wpX_inclusive
  exact ft_isf hf rfl (br_f (show ¬ (1 : Int32) = 0 by decide) ⟨M + 1, ft_in13 ok ar we hf hp M 0 (M + 1) (by omega) (by omega)⟩)
/-! ===== edge ===== -/
theorem ft_ed21 (ok : ft_ok M F A D) (ar : ft_ar M F A a2 a3 a4 a5) (we : ft_we M O T a6 a7) {c f : Nat} (hc : c < 8) (hf : f < 8) (hp : post (nI (ft_ed F A T M c f))) : ∀ j k n, k + j = M → j < n → wX_edge_21 post (nI c) (nI f) d s (nI (M + 1)) a1 a2 a3 a4 a5 a6 a7 n (nI (ft_s (fun n => if ft_top A (ft_pe F A c f) n = true then T n else 0) k)) (nI (k + 1))
  | 0, k, n, h, hn => by
    obtain ⟨m, rfl⟩ : ∃ m, n = m + 1 := ⟨n - 1, by omega⟩
    have hM := ok.1
    have e : k = M := by omega
    rw [e]
    exact pk_le (M + 1) (M + 1) (fun _ => hp) (fun z => absurd z (by omega))
  | j + 1, k, n, h, hn => by
    obtain ⟨m, rfl⟩ : ∃ m, n = m + 1 := ⟨n - 1, by omega⟩
    have hM := ok.1
    have ih := ft_ed21 ok ar we hc hf hp j (k + 1) m (by omega) (by omega)
    have hA := ok.2.2.2.1 (k + 1) (by omega) (by omega)
    have tp : ft_top A (ft_pe F A c f) (k + 1) = (ft_pe F A c f (k + 1) && !(ft_hit A (ft_pe F A c f) 8 (A (k + 1)))) := rfl
    have pe : ft_pe F A c f (k + 1) = (decide (F (k + 1) = f) && decide (F (A (k + 1)) = c)) := rfl
    have no : ft_pe F A c f (k + 1) = false → wX_edge_62 post (wX_edge_21 post (nI c) (nI f) d s (nI (M + 1)) a1 a2 a3 a4 a5 a6 a7 m) (nI c) (nI f) (nI (ft_s (fun n => if ft_top A (ft_pe F A c f) n = true then T n else 0) k)) (nI (k + 1)) 0 d s (nI (M + 1)) a1 a2 a3 a4 a5 a6 a7 := by
      intro e
      rw [e, Bool.false_and] at tp
      exact br_t rfl (nm_r (ft_acc (g := fun n => if ft_top A (ft_pe F A c f) n = true then T n else 0) (v := 0) rfl (if_neg (by rw [tp]; decide))) (nm_r (nI_1 _) ih))
    refine pk_le (M + 1) (k + 1) (fun z => absurd z (by omega)) (fun _ => ⟨pk_in (k + 1) 321 (by omega), ek_if (ft_a2x ok ar (m := k + 1) (by omega) hf rfl rfl) (fun z => ⟨pk_in (k + 1) 321 (by omega), pk_in (A (k + 1)) 321 (by omega) (ft_a3x ok ar (by omega) (by omega) rfl), ek_if (ft_a2x ok ar (m := A (k + 1)) (by omega) hc (ft_a3x ok ar (by omega) (by omega) rfl) rfl) (fun z2 => ?_) (fun z2 => ?_)⟩) (fun z => ?_)⟩)
    · refine br_f (show ¬ (1 : Int32) = 0 by decide) ?_
      refine ft_sa ok ar (P := ft_pe F A c f) hf (fun m e => by show (decide (F m = f) && decide (F (A m) = c)) = false; rw [decide_eq_false e, Bool.false_and]) (fun m e => Or.inr ⟨nI_pos (by omega), c, hc, rfl, by show (decide (F m = f) && decide (F (A m) = c)) = decide (F (A m) = c); rw [decide_eq_true e, Bool.true_and]⟩) (by omega) (by omega) ?_
      rw [pe, decide_eq_true z, decide_eq_true z2, Bool.true_and, Bool.true_and] at tp
      cases hb : ft_hit A (ft_pe F A c f) 8 (A (k + 1)) with
      | false =>
        rw [hb] at tp
        exact br_t rfl ⟨pk_in (k + 1) 321 (by omega), nm_r (ft_acc (g := fun n => if ft_top A (ft_pe F A c f) n = true then T n else 0) (ft_a7x we (by omega) rfl) (if_pos tp)) (nm_r (nI_1 _) ih)⟩
      | true =>
        rw [hb] at tp
        exact br_f (show ¬ (1 : Int32) = 0 by decide) (nm_r (ft_acc (g := fun n => if ft_top A (ft_pe F A c f) n = true then T n else 0) (v := 0) rfl (if_neg (by rw [tp]; decide))) (nm_r (nI_1 _) ih))
    · exact no (by rw [pe, decide_eq_false z2, Bool.and_false])
    · exact no (by rw [pe, decide_eq_false z, Bool.false_and])
theorem ft_edge (ok : ft_ok M F A D) (ar : ft_ar M F A a2 a3 a4 a5) (we : ft_we M O T a6 a7) {c f : Nat} (hc : c < 8) (hf : f < 8) (hp : post (nI (ft_ed F A T M c f))) : wpX_edge post (d, s, nI (M + 1), a1, a2, a3, a4, a5, a6, a7) (nI c) (nI f) := by
  unfold wpX_edge
  exact ft_isf hc rfl (br_f (show ¬ (1 : Int32) = 0 by decide) (ft_isf hf rfl (br_f (show ¬ (1 : Int32) = 0 by decide) ⟨M + 1, ft_ed21 ok ar we hc hf hp M 0 (M + 1) (by omega) (by omega)⟩)))
/-! ===== whole ===== -/
theorem ft_w49 (ok : ft_ok M F A D) (ar : ft_ar M F A a2 a3 a4 a5) (we : ft_we M O T a6 a7) (w0 : ft_w0 M A O T) (h0 : T 0 ≤ 4000) {J : Int32 → Int32 → Prop} {x1 x2 : Int32} {f : Nat} (hf : f < 8) (H : J x2 (nI (f + 1))) : ∀ j c n, c + j = 8 → j < n → wL_whole_49 post J x1 x2 (nI f) (nI (ft_in F A T M f)) d s (nI (M + 1)) a1 a2 a3 a4 a5 a6 a7 n (nI c)
  | 0, c, n, h, hn => by
    obtain ⟨m, rfl⟩ : ∃ m, n = m + 1 := ⟨n - 1, by omega⟩
    exact pk_le 8 c (fun _ => nm_r (nI_1 f) H) (fun z => absurd z (by omega))
  | j + 1, c, n, h, hn => by
    obtain ⟨m, rfl⟩ : ∃ m, n = m + 1 := ⟨n - 1, by omega⟩
    have ih := ft_w49 ok ar we w0 h0 (x1 := x1) hf H j (c + 1) m (by omega) (by omega)
    have e1 := ft_ed_in (c := c) (f := f) ok w0 (by omega)
    have e2 := ft_in_le (f := f) ok w0
    have e3 := ft_in_le (f := c) ok w0
    refine pk_le 8 c (fun z => absurd z (by omega)) (fun _ => ft_edge ok ar we (by omega) hf ?_)
    refine pk_lt (ft_ed F A T M c f) 0 (fun z => absurd z (by omega)) (fun _ => pk_lt (ft_in F A T M f) (ft_ed F A T M c f) (fun z => absurd z (by omega)) (fun _ => ft_inclusive ok ar we (by omega) ?_))
    exact pk_le (ft_ed F A T M c f) (ft_in F A T M c) (fun _ => nm_r (nI_1 c) ih) (fun z => absurd z (by omega))
theorem ft_w7 (ok : ft_ok M F A D) (ar : ft_ar M F A a2 a3 a4 a5) (we : ft_we M O T a6 a7) (w0 : ft_w0 M A O T) (h0 : T 0 ≤ 4000) {w : Nat} (hw : w ≤ 127) (hp : post 1) : ∀ j f n, f + j = 8 → j < n → wL_whole_7 post (nI w) (nI 0) s (nI (M + 1)) a1 a2 a3 a4 a5 a6 a7 n (nI (O 0 + ft_8 (ft_ex F O M) f)) (nI f)
  | 0, f, n, h, hn => by
    obtain ⟨m, rfl⟩ : ∃ m, n = m + 1 := ⟨n - 1, by omega⟩
    have hM := ok.1
    have hT : ∀ n, n ≤ M → T n < 2 ^ 31 := fun n hn => by
      have := ft_T_le ok w0 n n (Nat.le_refl _) hn
      omega
    have e8 : f = 8 := by omega
    have es := ft_ex_sum ok w0
    have sk : ft_sk 0 (fun _ => 0) a1 := ⟨by omega, fun i hi => absurd hi (by omega)⟩
    have p1 : ft_pa T M (max 1 (w + 1)) ≤ ft_pa T M (max 1 w) := ft_pa_le (by omega)
    have p2 : ft_pa T M (max 1 w) ≤ M := ft_pa_b M
    have q1 : ft_m (ft_dg D T (max 1 (w + 1))) M ≤ ft_m (ft_dg D T (max 1 w)) M := ft_m_le M (fun n _ _ => ft_dg_le (by omega))
    have q2 : ft_m (ft_dg D T (max 1 w)) M ≤ 8 := ft_m_b M (fun n h1 h2 => ft_dg_b ok h1 h2)
    rw [e8, es]
    refine pk_le 8 8 (fun _ => ft_total ok ar we sk ?_) (fun z => absurd z (by omega))
    refine br_t rfl (ft_paths ok we hT (w := w + 1) (by omega) (nI_1 w) (ft_paths ok we hT (w := w) (by omega) rfl ?_))
    refine pk_lt (ft_pa T M (max 1 w)) (ft_pa T M (max 1 (w + 1))) (fun z => absurd z (by omega)) (fun _ => ft_deepest ok ar we hT (w := w + 1) (by omega) (nI_1 w) (ft_deepest ok ar we hT (w := w) (by omega) rfl ?_))
    refine pk_lt (ft_m (ft_dg D T (max 1 w)) M) (ft_m (ft_dg D T (max 1 (w + 1))) M) (fun z => absurd z (by omega)) (fun _ => ft_paths ok we hT (w := 0) (by omega) rfl (ft_paths ok we hT (w := 1) (by omega) rfl ?_))
    exact br_t rfl hp
  | j + 1, f, n, h, hn => by
    obtain ⟨m, rfl⟩ : ∃ m, n = m + 1 := ⟨n - 1, by omega⟩
    have ih := ft_w7 ok ar we w0 h0 hw hp j (f + 1) m (by omega) (by omega)
    have e1 := ft_ex_in (f := f) ok w0
    have e2 := ft_in_le (f := f) ok w0
    refine pk_le 8 f (fun z => absurd z (by omega)) (fun _ => ft_exclusive ok ar we (by omega) (ft_inclusive ok ar we (by omega) ?_))
    refine pk_lt (ft_in F A T M f) (ft_ex F O M f) (fun z => absurd z (by omega)) (fun _ => pk_le 0 (ft_ex F O M f) (fun _ => nm_r (nI_add _ _) ⟨9, ?_⟩) (fun z => absurd z (by omega)))
    exact ft_w49 ok ar we w0 h0 (J := wL_whole_7 post (nI w) (nI 0) s (nI (M + 1)) a1 a2 a3 a4 a5 a6 a7 m) (by omega) (by rw [Nat.add_assoc]; exact ih) 8 0 9 (by omega) (by omega)
theorem ft_whole (ok : ft_ok M F A D) (ar : ft_ar M F A a2 a3 a4 a5) (we : ft_we M O T a6 a7) (w0 : ft_w0 M A O T) (h0 : T 0 ≤ 4000) {w : Nat} {x : Int32} (hw : w ≤ 127) (hx : x = nI w) (hp : post 1) : wpL_whole post (nI 0, s, nI (M + 1), a1, a2, a3, a4, a5, a6, a7) x := by
  subst hx
  have sk : ft_sk 0 (fun _ => 0) a1 := ⟨by omega, fun i hi => absurd hi (by omega)⟩
  unfold wpL_whole
  refine ft_own ok ar we sk ?_
  exact ⟨9, ft_w7 ok ar we w0 h0 hw hp 8 0 9 (by omega) (by omega)⟩
end
end
section
theorem ft_upd {a : Nat → Int32} {f : Nat → Nat} {k v n : Nat} (h : n ≠ k → a n = nI (f n)) : upd a k (nI v) n = nI (ft_u f k v n) := by
  by_cases e : n = k
  · rw [e, pk_us, ft_us]
  · rw [pk_un e, ft_un e, h e]
section
variable {M : Nat} {F A D O T : Nat → Nat} {d s N : Int32} {a1 a2 a3 a4 a5 a6 a7 : Nat → Int32} {P : Int32 → St1 → Prop}
/-! ===== call, leave ===== -/
theorem ft_callA {dd f : Nat} {x : Int32} (hd : dd < 8) (hf : f < 8) (hx : x = nI f) (h : P (nI (dd + 1)) (nI (dd + 1), s, N, upd a1 dd (nI f), a2, a3, a4, a5, a6, a7)) : wpX_call P (nI dd, s, N, a1, a2, a3, a4, a5, a6, a7) x := by
  subst hx
  unfold wpX_call
  exact ft_isf hf rfl (br_f (show ¬ (1 : Int32) = 0 by decide) (pk_lt dd 8 (fun _ => ⟨pk_in dd 8 (by omega), nm_r (e' := upd a1 dd (nI f)) (by rw [nI_clamp (by omega)]) (nm_r (nI_1 dd) h)⟩) (fun z => absurd z (by omega))))
theorem ft_callB {f : Nat} {x : Int32} (hf : f < 8) (hx : x = nI f) (h : P (-1) (nI 8, s, N, a1, a2, a3, a4, a5, a6, a7)) : wpX_call P (nI 8, s, N, a1, a2, a3, a4, a5, a6, a7) x := by
  unfold wpX_call
  exact ft_isf hf hx (br_f (show ¬ (1 : Int32) = 0 by decide) (br_f (show ¬ (8 : Int32) < 8 by decide) h))
theorem ft_leaveA {dd : Nat} (hd : dd < 8) (h : P (a1 dd) (nI dd, s, N, a1, a2, a3, a4, a5, a6, a7)) : wpX_leave P (nI (dd + 1), s, N, a1, a2, a3, a4, a5, a6, a7) :=
  br_f (nI_ne0 (show 0 < dd + 1 by omega) (by omega)) (nm_r (nI_pred dd) ⟨pk_in dd 8 hd, by rw [nI_clamp (by omega)]; exact h⟩)
theorem ft_leaveB (h : P (-1) (nI 0, s, N, a1, a2, a3, a4, a5, a6, a7)) : wpX_leave P (nI 0, s, N, a1, a2, a3, a4, a5, a6, a7) := br_t rfl h
theorem ft_sk_push {dd f : Nat} {st : Nat → Nat} (sk : ft_sk dd st a1) (hd : dd < 8) (hf : f < 8) : ft_sk (dd + 1) (ft_u st dd f) (upd a1 dd (nI f)) := by
  refine ⟨by omega, fun i hi => ?_⟩
  by_cases e : i = dd
  · rw [e, pk_us, ft_us]
    exact ⟨rfl, hf⟩
  · rw [pk_un e, ft_un e]
    exact sk.2 i (by omega)
theorem ft_sk_keep {dd f : Nat} {st : Nat → Nat} (sk : ft_sk dd st a1) : ft_sk dd st (upd a1 dd (nI f)) := by
  refine ⟨sk.1, fun i hi => ?_⟩
  rw [pk_un (show i ≠ dd by omega)]
  exact sk.2 i hi
theorem ft_nd_push {dd f : Nat} {st : Nat → Nat} : ft_nd F A M (ft_u st dd f) (dd + 1) = ft_nx F A M (ft_nd F A M st dd) f := by
  show ft_nx F A M (ft_nd F A M (ft_u st dd f) dd) (ft_u st dd f dd) = _
  rw [ft_us, ft_nd_congr (st := ft_u st dd f) (st' := st) dd (fun i hi => ft_un (by omega))]
/-! ===== node ===== -/
theorem ft_n15 (ok : ft_ok M F A D) (ar : ft_ar M F A a2 a3 a4 a5) (we : ft_we M O T a6 a7) (w0 : ft_w0 M A O T) {dd : Nat} {st : Nat → Nat} (hd : dd < 8) (hp : ∀ b, ft_sk dd st b → P 1 (nI dd, s, N, b, a2, a3, a4, a5, a6, a7)) : ∀ j f n b, f + j = 8 → j < n → ft_sk dd st b → wL_node_15 P (nI (ft_v T (ft_nd F A M st dd))) n (nI (ft_v O (ft_nd F A M st dd) + ft_8 (fun f => ft_v T (ft_nx F A M (ft_nd F A M st dd) f)) f)) 0 (nI f) (nI dd) s N b a2 a3 a4 a5 a6 a7
  | 0, f, n, b, h, hn, sk => by
    obtain ⟨m, rfl⟩ : ∃ m, n = m + 1 := ⟨n - 1, by omega⟩
    have e8 : f = 8 := by omega
    have e := ft_node ok w0 (ft_nd F A M st dd) (fun x hx => (ft_nd_in ok dd x hx).1)
    rw [e8, e]
    exact pk_le 8 8 (fun _ => br_t rfl (br_t rfl (hp b sk))) (fun z => absurd z (by omega))
  | j + 1, f, n, b, h, hn, sk => by
    obtain ⟨m, rfl⟩ : ∃ m, n = m + 1 := ⟨n - 1, by omega⟩
    have ih := ft_n15 ok ar we w0 hd hp j (f + 1) m (upd b dd (nI f)) (by omega) (by omega) (ft_sk_keep sk)
    refine pk_le 8 f (fun z => absurd z (by omega)) (fun _ => ft_callA hd (show f < 8 by omega) rfl ?_)
    refine br_t (nI_pos' (show dd + 1 < 2 ^ 31 by omega)) (ft_total ok ar we (ft_sk_push sk hd (by omega)) (nm_r (e' := nI (ft_v O (ft_nd F A M st dd) + ft_8 (fun f => ft_v T (ft_nx F A M (ft_nd F A M st dd) f)) (f + 1))) ?_ (ft_leaveA hd (br_t pk_us (nm_r (nI_1 f) ih)))))
    rw [ft_nd_push, nI_add, Nat.add_assoc]
    rfl
theorem ft_n15b (ok : ft_ok M F A D) (ar : ft_ar M F A a2 a3 a4 a5) {v : Int32} {st : Nat → Nat} (sk : ft_sk 8 st a1) (hp : P 1 (nI 8, s, N, a1, a2, a3, a4, a5, a6, a7)) : ∀ j f n x3, f + j = 8 → j < n → wL_node_15 P v n v x3 (nI f) (nI 8) s N a1 a2 a3 a4 a5 a6 a7
  | 0, f, n, x3, h, hn => by
    obtain ⟨m, rfl⟩ : ∃ m, n = m + 1 := ⟨n - 1, by omega⟩
    exact pk_le 8 f (fun _ => br_t rfl (br_c (fun _ => hp) (fun _ => ft_hot ok ar sk (br_t rfl hp)))) (fun z => absurd z (by omega))
  | j + 1, f, n, x3, h, hn => by
    obtain ⟨m, rfl⟩ : ∃ m, n = m + 1 := ⟨n - 1, by omega⟩
    have ih := ft_n15b ok ar (v := v) sk hp j (f + 1) m 1 (by omega) (by omega)
    exact pk_le 8 f (fun z => absurd z (by omega)) (fun _ => ft_callB (show f < 8 by omega) rfl (br_f (show ¬ (0 : Int32) ≤ -1 by decide) (nm_r (nI_1 f) ih)))
theorem ft_nodeL (ok : ft_ok M F A D) (ar : ft_ar M F A a2 a3 a4 a5) (we : ft_we M O T a6 a7) (w0 : ft_w0 M A O T) {dd : Nat} {st : Nat → Nat} (sk : ft_sk dd st a1) (hp : ∀ b, ft_sk dd st b → P 1 (nI dd, s, N, b, a2, a3, a4, a5, a6, a7)) : wpL_node P (nI dd, s, N, a1, a2, a3, a4, a5, a6, a7) := by
  unfold wpL_node
  refine ft_total ok ar we sk ?_
  refine ft_own ok ar we sk ?_
  refine ⟨9, ?_⟩
  by_cases hd : dd < 8
  · exact ft_n15 ok ar we w0 hd hp 8 0 9 a1 (by omega) (by omega) sk
  · have hd8 := sk.1
    have e : dd = 8 := by omega
    subst e
    rw [ft_full ok w0 (ft_nd F A M st 8) (fun x hx => ft_nd_in ok 8 x hx)]
    exact ft_n15b ok ar sk (hp a1 sk) 8 0 9 0 (by omega) (by omega)
/-! ===== addChild ===== -/
theorem ft_add {x f : Nat} {y z : Int32} (ok : ft_ok M F A D) (ar : ft_ar M F A a2 a3 a4 a5) (hM : M + 1 ≤ 320) (hx : x ≤ M) (hy : y = nI x) (hz : z = nI f) (h : P (nI (M + 1)) (d, s, nI (M + 1 + 1), a1, upd a2 (M + 1) (nI f), upd a3 (M + 1) (nI x), upd a4 x (nI (M + 1)), upd a5 (M + 1) (nI (ft_l A x M)), a6, a7)) : wpX_addChild P (d, s, nI (M + 1), a1, a2, a3, a4, a5, a6, a7) y z := by
  subst hy
  subst hz
  have c1 : (nI (M + 1)).toNatClampNeg = M + 1 := nI_clamp (by omega)
  have c2 : (nI x).toNatClampNeg = x := nI_clamp (by omega)
  exact nm_r (nI_1 (M + 1)) ⟨pk_in (M + 1) 321 (by omega), nm_r (e' := upd a2 (M + 1) (nI f)) (by rw [c1]) ⟨pk_in (M + 1) 321 (by omega), nm_r (e' := upd a3 (M + 1) (nI x)) (by rw [c1]) ⟨pk_in x 321 (by omega), pk_in (M + 1) 321 (by omega), nm_r (e' := upd a5 (M + 1) (nI (ft_l A x M))) (by rw [c1, c2, ar.2.2.2.1 x (by omega)]) ⟨pk_in x 321 (by omega), nm_r (e' := upd a4 x (nI (M + 1))) (by rw [c2]) h⟩⟩⟩⟩
theorem ft_ar_add {x f : Nat} (ok : ft_ok M F A D) (ar : ft_ar M F A a2 a3 a4 a5) (hx : x ≤ M) : ft_ar (M + 1) (ft_u F (M + 1) f) (ft_u A (M + 1) x) (upd a2 (M + 1) (nI f)) (upd a3 (M + 1) (nI x)) (upd a4 x (nI (M + 1))) (upd a5 (M + 1) (nI (ft_l A x M))) := by
  obtain ⟨r1, r2, r3, r4, r5⟩ := ar
  refine ⟨?_, fun n h1 h2 => ft_upd (fun e => r2 n h1 (by omega)), fun n h1 h2 => ft_upd (fun e => r3 n h1 (by omega)), fun n hn => ?_, fun n h1 h2 => ?_⟩
  · rw [pk_un (show (0 : Nat) ≠ M + 1 by omega)]
    exact r1
  · have cg : ft_l (ft_u A (M + 1) x) n M = ft_l A n M := ft_l_congr n M (fun i h1 h2 => ft_un (by omega))
    show upd a4 x (nI (M + 1)) n = nI (if ft_u A (M + 1) x (M + 1) = n then M + 1 else ft_l (ft_u A (M + 1) x) n M)
    rw [ft_us, cg]
    by_cases e : n = x
    · rw [e, pk_us, if_pos rfl]
    · rw [pk_un e, if_neg (fun z => e z.symm)]
      exact r4 n hn
  · have cg : ∀ p, ft_l (ft_u A (M + 1) x) p (n - 1) = ft_l A p (n - 1) := fun p => ft_l_congr p (n - 1) (fun i h1 h2 => ft_un (by omega))
    rw [cg]
    by_cases e : n = M + 1
    · rw [e, pk_us, ft_us]
      rfl
    · rw [pk_un e, ft_un e]
      exact r5 n h1 (by omega)
/-! ===== sample ===== -/
def ft_inv (dd ss : Nat) (N : Int32) (a1 a2 a3 a4 a5 a6 a7 : Nat → Int32) : Prop :=
  ∃ (M : Nat) (F A D O T st : Nat → Nat), N = nI (M + 1) ∧ ft_ok M F A D ∧ ft_ar M F A a2 a3 a4 a5 ∧ ft_we M O T a6 a7 ∧ ft_w0 M A O T ∧ ft_sk dd st a1 ∧ ss ≤ 40 ∧ M ≤ 8 * ss ∧ T 0 ≤ 100 * ss
theorem ft_we_T {c v : Nat} (we : ft_we M O T a6 a7) (hc : c ≤ M) : ft_we M O (ft_u T c v) a6 (upd a7 c (nI v)) :=
  ⟨we.1, fun n hn => ft_upd (fun _ => we.2.1 n hn), fun n hn => ⟨(we.2.2 n hn).1, by rw [ft_un (show n ≠ c by omega)]; exact (we.2.2 n hn).2⟩⟩
theorem ft_we_O {c v : Nat} (we : ft_we M O T a6 a7) (hc : c ≤ M) : ft_we M (ft_u O c v) T (upd a6 c (nI v)) a7 :=
  ⟨fun n hn => ft_upd (fun _ => we.1 n hn), we.2.1, fun n hn => ⟨by rw [ft_un (show n ≠ c by omega)]; exact (we.2.2 n hn).1, (we.2.2 n hn).2⟩⟩
theorem ft_s75 {J : Int32 → Int32 → Int32 → Int32 → Int32 → (Nat → Int32) → (Nat → Int32) → (Nat → Int32) → (Nat → Int32) → (Nat → Int32) → (Nat → Int32) → (Nat → Int32) → Prop} {c k w : Nat} (hM : M ≤ 320) (we : ft_we M O T a6 a7) (hc : c ≤ M) (h : J (nI c) (nI (k + 1)) d s N a1 a2 a3 a4 a5 a6 (upd a7 c (nI (T c + w)))) : wX_sample_75 P J (nI w) (nI k) (nI c) d s N a1 a2 a3 a4 a5 a6 a7 := by
  have c1 : (nI c).toNatClampNeg = c := nI_clamp (by omega)
  exact ⟨pk_in c 321 (by omega), pk_in c 321 (by omega), nm_r (e' := upd a7 c (nI (T c + w))) (by rw [c1, we.2.1 c (by omega), nI_add]) (nm_r (nI_1 k) h)⟩
end
section
variable {O : Nat → Nat} {a1 a6 : Nat → Int32} {P : Int32 → St1 → Prop}
theorem ft_s36 {dd ss w : Nat} {st : Nat → Nat} (hw : w ≤ 100) (hs : ss < 40) (sk : ft_sk dd st a1)
    (hp : ∀ N b2 b3 b4 b5 b6 b7, ft_inv dd (ss + 1) N a1 b2 b3 b4 b5 b6 b7 → P (nI (ss + 1)) (nI dd, nI (ss + 1), N, a1, b2, b3, b4, b5, b6, b7)) :
    ∀ (j k n x M : Nat) (F A D T : Nat → Nat) (a2 a3 a4 a5 a7 : Nat → Int32), k + j = dd → j < n → ft_ok M F A D → ft_ar M F A a2 a3 a4 a5 → ft_we M O T a6 a7 → ft_wt M A O T x w → x ≤ M → D x = k → M ≤ 8 * ss + k → T 0 ≤ 100 * ss + 100 →
      wX_sample_36 P (nI w) n (nI x) (nI k) (nI dd) (nI ss) (nI (M + 1)) a1 a2 a3 a4 a5 a6 a7
  | 0, k, n, x, M, F, A, D, T, a2, a3, a4, a5, a7, h, hn, ok, ar, we, wt, hx, hD, hb, h0 => by
    obtain ⟨m, rfl⟩ : ∃ m, n = m + 1 := ⟨n - 1, by omega⟩
    have hM := ok.1
    have hd := sk.1
    have c1 : (nI x).toNatClampNeg = x := nI_clamp (by omega)
    exact pk_le dd k (fun _ => ⟨pk_in x 321 (by omega), pk_in x 321 (by omega), nm_r (e' := upd a6 x (nI (O x + w))) (by rw [c1, we.1 x (by omega), nI_add]) (nm_r (nI_1 ss) (hp _ _ _ _ _ _ _ ⟨M, F, A, D, ft_u O x (O x + w), T, st, rfl, ok, ar, ft_we_O we hx, ft_wt_end wt, sk, by omega, by omega, by omega⟩))⟩) (fun z => absurd z (by omega))
  | j + 1, k, n, x, M, F, A, D, T, a2, a3, a4, a5, a7, h, hn, ok, ar, we, wt, hx, hD, hb, h0 => by
    obtain ⟨m, rfl⟩ : ∃ m, n = m + 1 := ⟨n - 1, by omega⟩
    have hM := ok.1
    have hd := sk.1
    have hk := sk.2 k (by omega)
    have hcl := ft_c_le F A x (st k) M
    have ca : a1 (nI k).toNatClampNeg = nI (st k) := by
      rw [nI_clamp (by omega)]
      exact hk.1
    have go : ∀ (c M : Nat) (F A D : Nat → Nat) (a2 a3 a4 a5 : Nat → Int32), ft_ok M F A D → ft_ar M F A a2 a3 a4 a5 → ft_we M O T a6 a7 → ft_wt M A O T x w → 1 ≤ c → c ≤ M → A c = x → D x = k → M ≤ 8 * ss + (k + 1) → wX_sample_75 P (wX_sample_36 P (nI w) m) (nI w) (nI k) (nI c) (nI dd) (nI ss) (nI (M + 1)) a1 a2 a3 a4 a5 a6 a7 := by
      intro c M F A D a2 a3 a4 a5 ok ar we wt h1 h2 hA hD hb
      have hc := ok.2.2.2.1 c h1 h2
      refine ft_s75 ok.1 we h2 ?_
      exact ft_s36 hw hs sk hp j (k + 1) m c M F A D (ft_u T c (T c + w)) a2 a3 a4 a5 (upd a7 c (nI (T c + w))) (by omega) (by omega) ok ar (ft_we_T we h2) (ft_wt_step ok wt h1 h2 hA) h2 (by rw [hc.2.2.1, hA, hD]) hb (by rw [ft_un (show 0 ≠ c by omega)]; exact h0)
    refine pk_le dd k (fun z => absurd z (by omega)) (fun _ => ⟨pk_in k 8 (by omega), ft_cw ok ar hx hk.2 rfl ca ?_⟩)
    refine pk_eq (ft_c F A x (st k) M) 0 (fun z => ⟨pk_in k 8 (by omega), ft_add ok ar (by omega) hx rfl ca ?_⟩) (fun z => ?_)
    · have h3 := we.2.2 (M + 1) (by omega)
      exact go (M + 1) (M + 1) (ft_u F (M + 1) (st k)) (ft_u A (M + 1) x) (ft_u D (M + 1) (D x + 1)) _ _ _ _ (ft_ok_add ok (by omega) hx hk.2 (by omega) z) (ft_ar_add ok ar hx) ⟨we.1, we.2.1, fun n hn => we.2.2 n (by omega)⟩ (ft_wt_add ok wt hx h3.1 h3.2) (by omega) (by omega) ft_us (by rw [ft_un (show x ≠ M + 1 by omega)]; exact hD) (by omega)
    · exact go (ft_c F A x (st k) M) M F A D a2 a3 a4 a5 ok ar we wt (by omega) hcl (ft_c_some M z).1 hD (by omega)
end
end
section
section
variable {dd ss : Nat} {N : Int32} {a1 a2 a3 a4 a5 a6 a7 : Nat → Int32} {P : Int32 → St1 → Prop} {post : Int32 → Prop}
theorem ft_I_node (iv : ft_inv dd ss N a1 a2 a3 a4 a5 a6 a7) (hp : ∀ b, ft_inv dd ss N b a2 a3 a4 a5 a6 a7 → P 1 (nI dd, nI ss, N, b, a2, a3, a4, a5, a6, a7)) : wpL_node P (nI dd, nI ss, N, a1, a2, a3, a4, a5, a6, a7) := by
  obtain ⟨M, F, A, D, O, T, st, hN, ok, ar, we, w0, sk, h1, h2, h3⟩ := iv
  exact ft_nodeL ok ar we w0 sk (fun b hb => hp b ⟨M, F, A, D, O, T, st, hN, ok, ar, we, w0, hb, h1, h2, h3⟩)
theorem ft_I_whole {w : Nat} {x : Int32} (iv : ft_inv 0 ss N a1 a2 a3 a4 a5 a6 a7) (hw : w ≤ 127) (hx : x = nI w) (hp : post 1) : wpL_whole post (nI 0, nI ss, N, a1, a2, a3, a4, a5, a6, a7) x := by
  obtain ⟨M, F, A, D, O, T, st, hN, ok, ar, we, w0, sk, h1, h2, h3⟩ := iv
  subst hN
  exact ft_whole ok ar we w0 (by omega) hw hx hp
theorem ft_I_call {f : Nat} {x : Int32} (iv : ft_inv dd ss N a1 a2 a3 a4 a5 a6 a7) (hf : f < 8) (hx : x = nI f) (hA : dd < 8 → ∀ b, ft_inv (dd + 1) ss N b a2 a3 a4 a5 a6 a7 → P (nI (dd + 1)) (nI (dd + 1), nI ss, N, b, a2, a3, a4, a5, a6, a7)) (hB : dd = 8 → P (-1) (nI 8, nI ss, N, a1, a2, a3, a4, a5, a6, a7)) : wpX_call P (nI dd, nI ss, N, a1, a2, a3, a4, a5, a6, a7) x := by
  obtain ⟨M, F, A, D, O, T, st, hN, ok, ar, we, w0, sk, h1, h2, h3⟩ := iv
  by_cases hd : dd < 8
  · exact ft_callA hd hf hx (hA hd _ ⟨M, F, A, D, O, T, ft_u st dd f, hN, ok, ar, we, w0, ft_sk_push sk hd hf, h1, h2, h3⟩)
  · have h8 := sk.1
    have e : dd = 8 := by omega
    subst e
    exact ft_callB hf hx (hB rfl)
theorem ft_I_leaveA (iv : ft_inv (dd + 1) ss N a1 a2 a3 a4 a5 a6 a7) (h : ∀ v, v < 8 → ft_inv dd ss N a1 a2 a3 a4 a5 a6 a7 → P (nI v) (nI dd, nI ss, N, a1, a2, a3, a4, a5, a6, a7)) : wpX_leave P (nI (dd + 1), nI ss, N, a1, a2, a3, a4, a5, a6, a7) := by
  obtain ⟨M, F, A, D, O, T, st, hN, ok, ar, we, w0, sk, h1, h2, h3⟩ := iv
  have h8 := sk.1
  have ht := sk.2 dd (by omega)
  refine ft_leaveA (by omega) ?_
  rw [ht.1]
  exact h (st dd) ht.2 ⟨M, F, A, D, O, T, st, hN, ok, ar, we, w0, ⟨by omega, fun i hi => sk.2 i (by omega)⟩, h1, h2, h3⟩
theorem ft_I_sample {w : Nat} {x : Int32} (iv : ft_inv dd ss N a1 a2 a3 a4 a5 a6 a7) (h1w : 1 ≤ w) (hw : w ≤ 100) (hx : x = nI w) (hA : ss < 40 → ∀ N b2 b3 b4 b5 b6 b7, ft_inv dd (ss + 1) N a1 b2 b3 b4 b5 b6 b7 → P (nI (ss + 1)) (nI dd, nI (ss + 1), N, a1, b2, b3, b4, b5, b6, b7)) (hB : ss = 40 → P (-1) (nI dd, nI ss, N, a1, a2, a3, a4, a5, a6, a7)) : wpX_sample P (nI dd, nI ss, N, a1, a2, a3, a4, a5, a6, a7) x := by
  obtain ⟨M, F, A, D, O, T, st, hN, ok, ar, we, w0, sk, h1, h2, h3⟩ := iv
  subst hx
  refine pk_lt w 1 (fun z => absurd z (by omega)) (fun _ => pk_lt 100 w (fun z => absurd z (by omega)) (fun _ => pk_lt ss 40 (fun z => nm_r (e' := upd a7 0 (nI (T 0 + w))) ?_ ⟨dd + 1, ?_⟩) (fun z => hB (by omega))))
  · rw [we.2.1 0 (by omega), nI_add]
  · rw [hN]
    exact ft_s36 hw z sk (hA z) dd 0 (dd + 1) 0 M F A D (ft_u T 0 (T 0 + w)) a2 a3 a4 a5 (upd a7 0 (nI (T 0 + w))) (by omega) (by omega) ok ar (ft_we_T we (by omega)) (ft_wt_start w0) (by omega) ok.2.2.1 (by omega) (by rw [ft_us]; omega)
theorem ft_init : ft_inv 0 0 1 (fun _ => 0) (upd (fun _ => 0) 0 (-1)) (fun _ => 0) (fun _ => 0) (fun _ => 0) (fun _ => 0) (fun _ => 0) := by
  refine ⟨0, fun _ => 8, fun _ => 0, fun _ => 0, fun _ => 0, fun _ => 0, fun _ => 0, rfl, ⟨by omega, rfl, rfl, fun n h1 h2 => absurd h1 (by omega), fun m n h1 h2 => absurd h1 (by omega)⟩, ⟨pk_us, fun n h1 h2 => absurd h1 (by omega), fun n h1 h2 => absurd h1 (by omega), fun n _ => rfl, fun n h1 h2 => absurd h1 (by omega)⟩, ⟨fun n _ => rfl, fun n _ => rfl, fun n _ => ⟨rfl, rfl⟩⟩, fun n _ => rfl, ⟨by omega, fun i hi => absurd hi (by omega)⟩, by omega, by omega, Nat.zero_le _⟩
end
section
variable {L : Nat} {xs : Nat → Int32} {kc ks : Nat} {ss : Nat} {N : Int32} {a1 a2 a3 a4 a5 a6 a7 : Nat → Int32}
/-! ===== the law's loops ===== -/
theorem ft_L283 : ∀ d n, d < n → ft_inv d ss N a1 a2 a3 a4 a5 a6 a7 → wL_law_283 (fun r => r = 1) L xs kc ks n (nI d) (nI d) (nI ss) N a1 a2 a3 a4 a5 a6 a7
  | 0, n, hn, iv => by
    obtain ⟨m, rfl⟩ : ∃ m, n = m + 1 := ⟨n - 1, by omega⟩
    exact br_t (show (0 : Int32) ≤ 0 by decide) (ft_I_whole (w := 3) iv (by omega) rfl (br_f (show ¬ (1 : Int32) = 0 by decide) (ft_I_node iv (fun b _ => br_f (show ¬ (1 : Int32) = 0 by decide) rfl))))
  | d + 1, n, hn, iv => by
    obtain ⟨m, rfl⟩ : ∃ m, n = m + 1 := ⟨n - 1, by omega⟩
    have h8 : d + 1 ≤ 8 := by
      obtain ⟨M, F, A, D, O, T, st, hN, ok, ar, we, w0, sk, h1, h2, h3⟩ := iv
      exact sk.1
    exact br_f (nI_nle (show 0 < d + 1 by omega) (by omega)) (ft_I_leaveA iv (fun v _ iv' => nm_r (pk_m1 d) (ft_L283 d m (by omega) iv')))
variable {J : Int32 → Int32 → Int32 → Int32 → Int32 → Int32 → (Nat → Int32) → (Nat → Int32) → (Nat → Int32) → (Nat → Int32) → (Nat → Int32) → (Nat → Int32) → (Nat → Int32) → Prop} {x4 x6 : Int32}
theorem ft_L238 (H : ∀ b, ft_inv 0 ss N b a2 a3 a4 a5 a6 a7 → J (nI 0) (nI ss) (x4 + 2) (nI 0) (nI ss) N b a2 a3 a4 a5 a6 a7) : ∀ d n, d < n → ft_inv d ss N a1 a2 a3 a4 a5 a6 a7 → wL_law_238 (fun r => r = 1) L xs J (nI ss) x4 x6 kc ks n (nI d) (nI d) (nI ss) N a1 a2 a3 a4 a5 a6 a7
  | 0, n, hn, iv => by
    obtain ⟨m, rfl⟩ : ∃ m, n = m + 1 := ⟨n - 1, by omega⟩
    obtain ⟨w, hw, ew⟩ := pk_andE (x6 >>> ((8 : Int32) &&& 31)) (m := 127) 7 (by decide)
    exact br_t (show (0 : Int32) ≤ 0 by decide) (ft_I_node iv (fun b ivb => br_f (show ¬ (1 : Int32) = 0 by decide) (ft_I_whole ivb (by omega) ew (br_f (show ¬ (1 : Int32) = 0 by decide) (nm_e (H b ivb))))))
  | d + 1, n, hn, iv => by
    obtain ⟨m, rfl⟩ : ∃ m, n = m + 1 := ⟨n - 1, by omega⟩
    have h8 : d + 1 ≤ 8 := by
      obtain ⟨M, F, A, D, O, T, st, hN, ok, ar, we, w0, sk, h1, h2, h3⟩ := iv
      exact sk.1
    exact br_f (nI_nle (show 0 < d + 1 by omega) (by omega)) (ft_I_leaveA iv (fun v _ iv' => nm_r (pk_m1 d) (ft_L238 H d m (by omega) iv')))
theorem ft_L222 {dd : Nat} {x5 : Int32} (H : ∀ e b, ft_inv e ss N b a2 a3 a4 a5 a6 a7 → J (nI e) (nI ss) (x4 + 2) (nI e) (nI ss) N b a2 a3 a4 a5 a6 a7) (iv : ft_inv dd ss N a1 a2 a3 a4 a5 a6 a7) : wL_law_222 (fun r => r = 1) L xs J (nI dd) (nI ss) x4 x5 x6 kc ks (nI dd) (nI ss) N a1 a2 a3 a4 a5 a6 a7 := by
  unfold wL_law_222
  exact ft_I_node iv (fun b ivb => br_f (show ¬ (1 : Int32) = 0 by decide) (br_c (fun _ => ⟨dd + 1, ft_L238 (H 0) dd (dd + 1) (by omega) ivb⟩) (fun _ => nm_e (H dd b ivb))))
end
theorem ft_nm1 : ∀ v, v < 8 → ¬ nI v = (-1 : Int32) := by decide
theorem ft_L15 {L : Nat} {xs : Nat → Int32} {kc ks : Nat} (hL : L ≤ 260) : ∀ (j t n dd ss : Nat) (N : Int32) (a1 a2 a3 a4 a5 a6 a7 : Nat → Int32), t + j = 80 → j < n → ft_inv dd ss N a1 a2 a3 a4 a5 a6 a7 → wL_law_15 (fun r => r = 1) L xs kc ks n (nI dd) (nI ss) (nI (2 * t)) (nI dd) (nI ss) N a1 a2 a3 a4 a5 a6 a7
  | 0, t, n, dd, ss, N, a1, a2, a3, a4, a5, a6, a7, h, hn, iv => by
    obtain ⟨m, rfl⟩ : ∃ m, n = m + 1 := ⟨n - 1, by omega⟩
    have out : ∃ fu, wL_law_283 (fun r => r = 1) L xs kc ks fu (nI dd) (nI dd) (nI ss) N a1 a2 a3 a4 a5 a6 a7 := ⟨dd + 1, ft_L283 dd (dd + 1) (by omega) iv⟩
    exact br_c (fun _ => out) (fun _ => pk_le 160 (2 * t) (fun _ => out) (fun z => absurd z (by omega)))
  | j + 1, t, n, dd, ss, N, a1, a2, a3, a4, a5, a6, a7, h, hn, iv => by
    obtain ⟨m, rfl⟩ : ∃ m, n = m + 1 := ⟨n - 1, by omega⟩
    have out : ∃ fu, wL_law_283 (fun r => r = 1) L xs kc ks fu (nI dd) (nI dd) (nI ss) N a1 a2 a3 a4 a5 a6 a7 := ⟨dd + 1, ft_L283 dd (dd + 1) (by omega) iv⟩
    have e2 : nI (2 * t) + 2 = nI (2 * t + 2) := nI_add (2 * t) 2
    have H : ∀ (e s' : Nat) (N : Int32) (b1 b2 b3 b4 b5 b6 b7 : Nat → Int32), ft_inv e s' N b1 b2 b3 b4 b5 b6 b7 → wL_law_15 (fun r => r = 1) L xs kc ks m (nI e) (nI s') (nI (2 * t) + 2) (nI e) (nI s') N b1 b2 b3 b4 b5 b6 b7 := by
      intro e s' N b1 b2 b3 b4 b5 b6 b7 iv'
      rw [e2]
      exact ft_L15 hL j (t + 1) m e s' N b1 b2 b3 b4 b5 b6 b7 (by omega) (by omega) iv'
    have h8 : dd ≤ 8 ∧ ss ≤ 40 := by
      obtain ⟨M, F, A, D, O, T, st, hN, ok, ar, we, w0, sk, h1, h2, h3⟩ := iv
      exact ⟨sk.1, h1⟩
    refine pk_lt L (2 * t + 2) (fun _ => out) (fun z => pk_le 160 (2 * t) (fun _ => out) (fun y => ⟨pk_in (2 * t) L (by omega), fun x5 e5 => ⟨pk_in (2 * t + 1) L (by omega) (nI_1 _), fun x6 e6 => ?_⟩⟩)) rfl e2
    obtain ⟨u, hu, eu⟩ := pk_andE (xs (nI (2 * t)).toNatClampNeg) (m := 15) 4 (by decide)
    rw [eu] at e5
    refine pk_lt 6 u (fun _ => pk_lt 10 u (fun _ => ⟨by decide, fun x7 e7 => ?_⟩) (fun _ => ?_) rfl e5) (fun _ => ?_) rfl e5
    · obtain ⟨a, ha, ea⟩ := pk_andE x6 (m := 255) 8 (by decide)
      have er : nI a - nI a / 100 * 100 = nI (a % 100) := pk_rem (d := 100) (by omega) (by omega) (by omega)
      have e1 : (1 : Int32) + nI (a % 100) = nI (1 + a % 100) := nI_add 1 (a % 100)
      rw [ea, er, e1] at e7
      refine ft_I_sample iv (w := 1 + a % 100) (by omega) (by omega) e7 (fun hs N' b2 b3 b4 b5 b6 b7 iv' => ?_) (fun hs => ?_)
      · refine pk_eq ss 40 (fun z => absurd z (by omega)) (fun _ => br_t (nI_1 ss).symm (pk_eq ss 40 (fun z => absurd z (by omega)) (fun _ => ?_)))
        rw [nI_1]
        exact ft_L222 (fun e b ivb => H e (ss + 1) _ _ _ _ _ _ _ _ ivb) iv'
      · subst hs
        exact br_t rfl (br_t rfl (br_t rfl (ft_L222 (fun e b ivb => H e 40 _ _ _ _ _ _ _ _ ivb) iv)))
    · cases dd with
      | zero => exact ft_leaveB (br_t rfl (br_t rfl (br_t rfl (br_t rfl (ft_L222 (fun e b ivb => H e ss _ _ _ _ _ _ _ _ ivb) iv)))))
      | succ dd =>
        refine ft_I_leaveA iv (fun v hv iv' => br_f (ft_nm1 v hv) (br_f (nI_ne0 (show 0 < dd + 1 by omega) (by omega)) (br_t rfl (br_f (nI_ne0 (show 0 < dd + 1 by omega) (by omega)) ?_))))
        rw [nI_pred]
        exact ft_L222 (fun e b ivb => H e ss _ _ _ _ _ _ _ _ ivb) iv'
    · have cl : ∀ f x, f < 8 → x = nI f → wL_law_77 (fun r => r = 1) L xs (wL_law_15 (fun r => r = 1) L xs kc ks m) (nI dd) (nI ss) (nI (2 * t)) x5 x6 x kc ks (nI dd) (nI ss) N a1 a2 a3 a4 a5 a6 a7 := by
        intro f x hf hx
        unfold wL_law_77
        refine ft_I_call iv hf hx (fun hd b ivb => ?_) (fun hd => ?_)
        · refine pk_eq dd 8 (fun z => absurd z (by omega)) (fun _ => br_t (nI_1 dd).symm (pk_eq dd 8 (fun z => absurd z (by omega)) (fun _ => ?_)))
          rw [nI_1]
          exact ft_L222 (fun e b ivb => H e ss _ _ _ _ _ _ _ _ ivb) ivb
        · subst hd
          exact br_t rfl (br_t rfl (br_t rfl (ft_L222 (fun e b ivb => H e ss _ _ _ _ _ _ _ _ ivb) iv)))
      obtain ⟨f1, h1, k1⟩ := pk_andE (x6 >>> ((2 : Int32) &&& 31)) (m := 7) 3 (by decide)
      obtain ⟨f2, h2, k2⟩ := pk_andE x6 (m := 1) 1 (by decide)
      exact br_c (fun _ => cl f1 _ (by omega) k1) (fun _ => cl f2 _ (by omega) k2)
theorem i_vc (xs : Nat → Int32) (L : Nat) (hL : L ≤ 260) : wpL_law (fun r => r = 1) L xs :=
  ⟨7, 1934, by decide, by decide, by decide, by decide, by decide, by decide, by decide, by decide, by decide, by decide, by decide, by decide, by decide, by decide, by decide, by decide, nm_e ⟨81, ft_L15 hL 80 0 81 0 0 1 _ _ _ _ _ _ _ (by omega) (by omega) ft_init⟩⟩
end

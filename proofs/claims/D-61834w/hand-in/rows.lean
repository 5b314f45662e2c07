section
/-! what the two systems compute, as plain functions -/
abbrev dt_F : Type := Nat → Int32
/-- made, n (keyCount), startOf, sizeOf, markOf, keysTo, numberOf, slotAt, depthAt, pieceOf, rightsOf -/
abbrev dt_S0 : Type := Int32 × Nat × dt_F × dt_F × dt_F × dt_F × dt_F × dt_F × dt_F × dt_F × dt_F
/-- held, pieceOf, rightsOf, parent, starts, sizes, marks, numbers, made, going -/
abbrev dt_S1 : Type := dt_F × dt_F × dt_F × dt_F × dt_F × dt_F × dt_F × dt_F × Int32 × dt_F
def dt_b (b : Bool) : Int32 := if b then 1 else 0
def dt_hd (pc : dt_F) (x : Int32) : Bool := !decide (x < 0) && (!decide (15 < x) && !decide (pc x.toNatClampNeg < 0))
def dt_fr (pc : dt_F) (x : Int32) : Bool := !decide (x < 0) && (!decide (15 < x) && decide (pc x.toNatClampNeg < 0))
def dt_plc (sl : dt_F) (x : Int32) : Nat → Nat
  | 0 => 0
  | k + 1 => if sl k = x then k else dt_plc sl x k
def dt_eop (dp : dt_F) (i : Nat) : Nat → Nat
  | 0 => i + 1
  | t + 1 => if dt_eop dp i t = i + 1 + t ∧ dp i < dp (i + 1 + t) then i + 1 + t + 1 else dt_eop dp i t
def dt_shu (P : Nat) : Nat → dt_F → dt_F
  | 0, f => f
  | d + 1, f => dt_shu P d (upd f (P + d + 1) (f (P + d)))
def dt_shd (g : Nat) : Nat → Nat → dt_F → dt_F
  | 0, _, f => f
  | d + 1, k, f => dt_shd g d (k + 1) (upd f (k - g) (f k))
def dt_fpc (kt : dt_F) : Nat → Nat → Nat
  | 0, f => f
  | d + 1, f => dt_fpc kt d (if kt d = 0 then d else f)
def dt_ls (st sz nb : dt_F) (q p : Nat) : Bool := decide (nb p < nb q) && (decide (st p ≤ st q) && decide (st q + sz q ≤ st p + sz p))
def dt_ho (st sz kt nb : dt_F) (p : Nat) : Nat → Nat → Bool
  | 0, _ => false
  | d + 1, q => (decide (0 < kt q) && dt_ls st sz nb q p) || dt_ho st sz kt nb p d (q + 1)
def dt_rs (st sz kt nb : dt_F) : Nat → Nat → dt_F → dt_F
  | 0, _, mr => mr
  | d + 1, p, mr => dt_rs st sz kt nb d (p + 1) (if 0 < kt p ∧ 0 < mr p ∧ dt_ho st sz kt nb p 16 0 = false then upd mr p 0 else mr)
def dt_lf (own : Int32) : Nat → Nat → Int32 → dt_F → Int32 × dt_F
  | 0, _, c, dp => (c, dp)
  | d + 1, k, c, dp => dt_lf own d (k + 1) (c + (if dp k = own + 1 then 1 else 0)) (upd dp k (dp k - 1))
def dt_fgk (kt pc : dt_F) (s : Nat) : dt_F := upd kt (pc s).toNatClampNeg (kt (pc s).toNatClampNeg - 1)
def dt_fgs (sl : dt_F) : Nat → Nat → dt_F → dt_F → dt_F × dt_F
  | 0, _, kt, pc => (kt, pc)
  | d + 1, k, kt, pc => dt_fgs sl d (k + 1) (dt_fgk kt pc (sl k).toNatClampNeg) (upd pc (sl k).toNatClampNeg (-1))
/-- DeriveTree.putKey -/
def dt_put (σ : dt_S0) (x : Int32) (t q : Nat) (r : Int32) : dt_S0 := match σ with
  | (made, n, st, sz, mr, kt, nb, sl, dp, pc, rt) =>
    (made, n + 1, st, sz, mr, upd kt q (kt q + 1), nb, upd (dt_shu (dt_plc sl x n + 1) (n - (dt_plc sl x n + 1)) sl) (dt_plc sl x n + 1) (nI t), upd (dt_shu (dt_plc sl x n + 1) (n - (dt_plc sl x n + 1)) dp) (dt_plc sl x n + 1) (dt_shu (dt_plc sl x n + 1) (n - (dt_plc sl x n + 1)) dp (dt_plc sl x n) + 1), upd pc t (nI q), upd rt t r)
def dt_split (σ : dt_S0) (x y z : Int32) : Int32 × dt_S0 := match σ with
  | (made, n, st, sz, mr, kt, nb, sl, dp, pc, rt) =>
    if dt_hd pc x = true ∧ dt_fr pc y = true ∧ 1 ≤ z ∧ z ≤ sz (pc x.toNatClampNeg).toNatClampNeg - mr (pc x.toNatClampNeg).toNatClampNeg then
      (upd st (dt_fpc kt 16 0) (st (pc x.toNatClampNeg).toNatClampNeg + mr (pc x.toNatClampNeg).toNatClampNeg) (dt_fpc kt 16 0),
       dt_put (made + 1, n, upd st (dt_fpc kt 16 0) (st (pc x.toNatClampNeg).toNatClampNeg + mr (pc x.toNatClampNeg).toNatClampNeg), upd sz (dt_fpc kt 16 0) z,
         upd (upd mr (dt_fpc kt 16 0) 0) (pc x.toNatClampNeg).toNatClampNeg (upd mr (dt_fpc kt 16 0) 0 (pc x.toNatClampNeg).toNatClampNeg + z),
         upd kt (dt_fpc kt 16 0) 0, upd nb (dt_fpc kt 16 0) made, sl, dp, pc, rt) x y.toNatClampNeg (dt_fpc kt 16 0) (rt x.toNatClampNeg))
    else (-1, (made, n, st, sz, mr, kt, nb, sl, dp, pc, rt))
def dt_copy (σ : dt_S0) (x y z : Int32) : Int32 × dt_S0 := match σ with
  | (made, n, st, sz, mr, kt, nb, sl, dp, pc, rt) =>
    if dt_hd pc x = true ∧ dt_fr pc y = true then
      (upd rt y.toNatClampNeg (rt x.toNatClampNeg &&& z) y.toNatClampNeg, dt_put (made, n, st, sz, mr, kt, nb, sl, dp, pc, rt) x y.toNatClampNeg (pc x.toNatClampNeg).toNatClampNeg (rt x.toNatClampNeg &&& z))
    else (-1, (made, n, st, sz, mr, kt, nb, sl, dp, pc, rt))
def dt_move (σ : dt_S0) (x y : Int32) : Int32 × dt_S0 := match σ with
  | (made, n, st, sz, mr, kt, nb, sl, dp, pc, rt) =>
    if dt_hd pc x = true ∧ dt_fr pc y = true then
      (0, (made, n, st, sz, mr, kt, nb, upd sl (dt_plc sl x n) y, dp, upd (upd pc y.toNatClampNeg (pc x.toNatClampNeg)) x.toNatClampNeg (-1), upd rt y.toNatClampNeg (rt x.toNatClampNeg)))
    else (-1, (made, n, st, sz, mr, kt, nb, sl, dp, pc, rt))
/-- the end of the part of place i -/
def dt_end (dp : dt_F) (n i : Nat) : Nat := dt_eop dp i (n - (i + 1))
def dt_delete (σ : dt_S0) (x : Int32) : Int32 × dt_S0 := match σ with
  | (made, n, st, sz, mr, kt, nb, sl, dp, pc, rt) =>
    if dt_hd pc x = true then
      ((dt_lf (dp (dt_plc sl x n)) (dt_end dp n (dt_plc sl x n) - (dt_plc sl x n + 1)) (dt_plc sl x n + 1) 0 dp).1,
       (made, n - 1, st, sz, dt_rs st sz (dt_fgk kt pc x.toNatClampNeg) nb 16 0 mr, dt_fgk kt pc x.toNatClampNeg, nb, dt_shd 1 (n - (dt_plc sl x n + 1)) (dt_plc sl x n + 1) sl, dt_shd 1 (n - (dt_plc sl x n + 1)) (dt_plc sl x n + 1) (dt_lf (dp (dt_plc sl x n)) (dt_end dp n (dt_plc sl x n) - (dt_plc sl x n + 1)) (dt_plc sl x n + 1) 0 dp).2, upd pc x.toNatClampNeg (-1), rt))
    else (-1, (made, n, st, sz, mr, kt, nb, sl, dp, pc, rt))
def dt_revoke (σ : dt_S0) (x : Int32) : Int32 × dt_S0 := match σ with
  | (made, n, st, sz, mr, kt, nb, sl, dp, pc, rt) =>
    if dt_hd pc x = true then
      (nI (dt_end dp n (dt_plc sl x n) - (dt_plc sl x n + 1)),
       (made, n - (dt_end dp n (dt_plc sl x n) - (dt_plc sl x n + 1)), st, sz, dt_rs st sz (dt_fgs sl (dt_end dp n (dt_plc sl x n) - (dt_plc sl x n + 1)) (dt_plc sl x n + 1) kt pc).1 nb 16 0 mr,
        (dt_fgs sl (dt_end dp n (dt_plc sl x n) - (dt_plc sl x n + 1)) (dt_plc sl x n + 1) kt pc).1, nb,
        dt_shd (dt_end dp n (dt_plc sl x n) - (dt_plc sl x n + 1)) (n - dt_end dp n (dt_plc sl x n)) (dt_end dp n (dt_plc sl x n)) sl,
        dt_shd (dt_end dp n (dt_plc sl x n) - (dt_plc sl x n + 1)) (n - dt_end dp n (dt_plc sl x n)) (dt_end dp n (dt_plc sl x n)) dp,
        (dt_fgs sl (dt_end dp n (dt_plc sl x n) - (dt_plc sl x n + 1)) (dt_plc sl x n + 1) kt pc).2, rt))
    else (-1, (made, n, st, sz, mr, kt, nb, sl, dp, pc, rt))
def dt_piece (σ : dt_S0) (x : Int32) : Int32 := match σ with
  | (_, _, st, sz, _, _, _, _, _, pc, _) => if dt_hd pc x = true then 100 * st (pc x.toNatClampNeg).toNatClampNeg + sz (pc x.toNatClampNeg).toNatClampNeg else -1
def dt_rights (σ : dt_S0) (x : Int32) : Int32 := match σ with
  | (_, _, _, _, _, _, _, _, _, pc, rt) => if dt_hd pc x = true then rt x.toNatClampNeg else -1
def dt_room (σ : dt_S0) (x : Int32) : Int32 := match σ with
  | (_, _, _, sz, mr, _, _, _, _, pc, _) => if dt_hd pc x = true then sz (pc x.toNatClampNeg).toNatClampNeg - mr (pc x.toNatClampNeg).toNatClampNeg else -1
def dt_descends (σ : dt_S0) (x y : Int32) : Int32 := match σ with
  | (_, n, _, _, _, _, _, sl, dp, pc, _) => if dt_hd pc x = true ∧ dt_hd pc y = true then (if dt_plc sl x n < dt_plc sl y n ∧ dt_plc sl y n < dt_end dp n (dt_plc sl x n) then 1 else 0) else -1
def dt_descendants (σ : dt_S0) (x : Int32) : Int32 := match σ with
  | (_, n, _, _, _, _, _, sl, dp, pc, _) => if dt_hd pc x = true then nI (dt_end dp n (dt_plc sl x n) - (dt_plc sl x n + 1)) else -1
def dt_keys (σ : dt_S0) : Int32 := nI σ.2.1
/-! the reference -/
def dt_ms (hd : dt_F) (x : Int32) : Bool := decide (x < 0) || (decide (15 < x) || decide (hd x.toNatClampNeg = 0))
def dt_tk (hd : dt_F) (x : Int32) : Bool := decide (x < 0) || (decide (15 < x) || !decide (hd x.toNatClampNeg = 0))
def dt_th (hd pc : dt_F) (x : Int32) : Nat → Nat → Bool
  | 0, _ => false
  | d + 1, s => (!decide (hd s = 0) && decide (pc s = x)) || dt_th hd pc x d (s + 1)
def dt_an (hd pc st sz nb : dt_F) (p : Nat) : Nat → Nat → Bool → Bool
  | 0, _, b => b
  | d + 1, q, b => dt_an hd pc st sz nb p d (q + 1) (if dt_ls st sz nb q p = true ∧ dt_th hd pc (nI q) 16 0 = true then true else b)
def dt_se (hd pc st sz nb : dt_F) : Nat → Nat → dt_F → dt_F
  | 0, _, mr => mr
  | d + 1, p, mr => dt_se hd pc st sz nb d (p + 1) (if dt_an hd pc st sz nb p 16 0 false = false then upd mr p 0 else mr)
def dt_hn (hd : dt_F) (x y : Int32) : Nat → Nat → Int32 → dt_F → Int32 × dt_F
  | 0, _, c, par => (c, par)
  | d + 1, s, c, par => if ¬ hd s = 0 ∧ par s = x then dt_hn hd x y d (s + 1) (c + 1) (upd par s y) else dt_hn hd x y d (s + 1) c par
def dt_bl (par : dt_F) (x : Int32) : Nat → Int32 → Bool
  | 0, _ => false
  | d + 1, v => if v < 0 then false else if v = x then true else dt_bl par x d (par v.toNatClampNeg)
def dt_sc (hd pc : dt_F) : Nat → Nat → Nat
  | 0, q => q
  | d + 1, q => if dt_th hd pc (nI q) 16 0 = true then dt_sc hd pc d (q + 1) else q
def dt_gs (hd par : dt_F) (x : Int32) : Nat → Nat → dt_F → dt_F
  | 0, _, gg => gg
  | d + 1, s, gg => dt_gs hd par x d (s + 1) (upd gg s (dt_b (!decide (hd s = 0) && dt_bl par x 16 (par s))))
def dt_gn (gg : dt_F) : Nat → Nat → Int32 → dt_F → Int32 × dt_F
  | 0, _, c, hd => (c, hd)
  | d + 1, s, c, hd => if gg s = 0 then dt_gn gg d (s + 1) c hd else dt_gn gg d (s + 1) (c + 1) (upd hd s 0)
def dt_dc (hd par : dt_F) (x : Int32) : Nat → Nat → Int32 → Int32
  | 0, _, c => c
  | d + 1, s, c => dt_dc hd par x d (s + 1) (if ¬ hd s = 0 ∧ dt_bl par x 16 (par s) = true then c + 1 else c)
def dt_ky (hd : dt_F) : Nat → Nat → Int32 → Int32
  | 0, _, c => c
  | d + 1, s, c => dt_ky hd d (s + 1) (if hd s = 0 then c else c + 1)
/-- DeriveTreeModel.hold -/
def dm_hold (τ : dt_S1) (t : Nat) (q r y : Int32) : dt_S1 := match τ with
  | (hd, pc, rt, par, st, sz, mr, nb, made, gg) => (upd hd t 1, upd pc t q, upd rt t r, upd par t y, st, sz, mr, nb, made, gg)
def dm_split (τ : dt_S1) (x y z : Int32) : Int32 × dt_S1 := match τ with
  | (hd, pc, rt, par, st, sz, mr, nb, made, gg) =>
    if dt_ms hd x = false ∧ dt_tk hd y = false ∧ 1 ≤ z ∧ z ≤ sz (pc x.toNatClampNeg).toNatClampNeg - mr (pc x.toNatClampNeg).toNatClampNeg then
      (upd st (dt_sc hd pc 15 0) (st (pc x.toNatClampNeg).toNatClampNeg + mr (pc x.toNatClampNeg).toNatClampNeg) (dt_sc hd pc 15 0),
       dm_hold (hd, pc, rt, par, upd st (dt_sc hd pc 15 0) (st (pc x.toNatClampNeg).toNatClampNeg + mr (pc x.toNatClampNeg).toNatClampNeg), upd sz (dt_sc hd pc 15 0) z,
         upd (upd mr (dt_sc hd pc 15 0) 0) (pc x.toNatClampNeg).toNatClampNeg (upd mr (dt_sc hd pc 15 0) 0 (pc x.toNatClampNeg).toNatClampNeg + z),
         upd nb (dt_sc hd pc 15 0) made, made + 1, gg) y.toNatClampNeg (nI (dt_sc hd pc 15 0)) (rt x.toNatClampNeg) x)
    else (-1, (hd, pc, rt, par, st, sz, mr, nb, made, gg))
def dm_copy (τ : dt_S1) (x y z : Int32) : Int32 × dt_S1 := match τ with
  | (hd, pc, rt, par, st, sz, mr, nb, made, gg) =>
    if dt_ms hd x = false ∧ dt_tk hd y = false then
      (upd rt y.toNatClampNeg (rt x.toNatClampNeg &&& z) y.toNatClampNeg, dm_hold (hd, pc, rt, par, st, sz, mr, nb, made, gg) y.toNatClampNeg (pc x.toNatClampNeg) (rt x.toNatClampNeg &&& z) x)
    else (-1, (hd, pc, rt, par, st, sz, mr, nb, made, gg))
def dm_move (τ : dt_S1) (x y : Int32) : Int32 × dt_S1 := match τ with
  | (hd, pc, rt, par, st, sz, mr, nb, made, gg) =>
    if dt_ms hd x = false ∧ dt_tk hd y = false then
      (0, (upd (upd hd y.toNatClampNeg 1) x.toNatClampNeg 0, upd pc y.toNatClampNeg (pc x.toNatClampNeg), upd rt y.toNatClampNeg (rt x.toNatClampNeg),
        (dt_hn (upd (upd hd y.toNatClampNeg 1) x.toNatClampNeg 0) x y 16 0 0 (upd par y.toNatClampNeg (par x.toNatClampNeg))).2, st, sz, mr, nb, made, gg))
    else (-1, (hd, pc, rt, par, st, sz, mr, nb, made, gg))
def dm_delete (τ : dt_S1) (x : Int32) : Int32 × dt_S1 := match τ with
  | (hd, pc, rt, par, st, sz, mr, nb, made, gg) =>
    if dt_ms hd x = false then
      ((dt_hn (upd hd x.toNatClampNeg 0) x (par x.toNatClampNeg) 16 0 0 par).1,
       (upd hd x.toNatClampNeg 0, pc, rt, (dt_hn (upd hd x.toNatClampNeg 0) x (par x.toNatClampNeg) 16 0 0 par).2, st, sz, dt_se (upd hd x.toNatClampNeg 0) pc st sz nb 16 0 mr, nb, made, gg))
    else (-1, (hd, pc, rt, par, st, sz, mr, nb, made, gg))
def dm_revoke (τ : dt_S1) (x : Int32) : Int32 × dt_S1 := match τ with
  | (hd, pc, rt, par, st, sz, mr, nb, made, gg) =>
    if dt_ms hd x = false then
      ((dt_gn (dt_gs hd par x 16 0 gg) 16 0 0 hd).1,
       ((dt_gn (dt_gs hd par x 16 0 gg) 16 0 0 hd).2, pc, rt, par, st, sz, dt_se (dt_gn (dt_gs hd par x 16 0 gg) 16 0 0 hd).2 pc st sz nb 16 0 mr, nb, made, dt_gs hd par x 16 0 gg))
    else (-1, (hd, pc, rt, par, st, sz, mr, nb, made, gg))
def dm_piece (τ : dt_S1) (x : Int32) : Int32 := match τ with
  | (hd, pc, _, _, st, sz, _, _, _, _) => if dt_ms hd x = false then 100 * st (pc x.toNatClampNeg).toNatClampNeg + sz (pc x.toNatClampNeg).toNatClampNeg else -1
def dm_rights (τ : dt_S1) (x : Int32) : Int32 := match τ with
  | (hd, _, rt, _, _, _, _, _, _, _) => if dt_ms hd x = false then rt x.toNatClampNeg else -1
def dm_room (τ : dt_S1) (x : Int32) : Int32 := match τ with
  | (hd, pc, _, _, _, sz, mr, _, _, _) => if dt_ms hd x = false then sz (pc x.toNatClampNeg).toNatClampNeg - mr (pc x.toNatClampNeg).toNatClampNeg else -1
def dm_descends (τ : dt_S1) (x y : Int32) : Int32 := match τ with
  | (hd, _, _, par, _, _, _, _, _, _) => if dt_ms hd x = false ∧ dt_ms hd y = false then dt_b (dt_bl par x 16 (par y.toNatClampNeg)) else -1
def dm_descendants (τ : dt_S1) (x : Int32) : Int32 := match τ with
  | (hd, _, _, par, _, _, _, _, _, _) => if dt_ms hd x = false then dt_dc hd par x 16 0 0 else -1
def dm_keys (τ : dt_S1) : Int32 := dt_ky τ.1 16 0 0
/-! the starts -/
def dt_ng : Nat → Nat → dt_F → dt_F
  | 0, _, f => f
  | d + 1, k, f => dt_ng d (k + 1) (upd f k (-1))
def dt_i0 : dt_S0 := (1, 1, fun _ => 0, upd (fun _ => 0) 0 64, fun _ => 0, upd (fun _ => 0) 0 1, fun _ => 0, fun _ => 0, fun _ => 0, upd (dt_ng 16 0 (fun _ => 0)) 0 0, upd (fun _ => 0) 0 7)
def dt_i1 : dt_S1 := (upd (fun _ => 0) 0 1, fun _ => 0, upd (fun _ => 0) 0 7, upd (fun _ => 0) 0 (-1), fun _ => 0, upd (fun _ => 0) 0 64, fun _ => 0, fun _ => 0, 1, fun _ => 0)
end
section
/-! counting, places, depths -/
def dt_cn (Q : Nat → Bool) : Nat → Nat → Nat
  | 0, _ => 0
  | d + 1, k => (if Q k = true then 1 else 0) + dt_cn Q d (k + 1)
theorem dt_cn_snoc (Q : Nat → Bool) : ∀ d k, dt_cn Q (d + 1) k = dt_cn Q d k + (if Q (k + d) = true then 1 else 0) := by
  intro d
  induction d with
  | zero => intro k; simp [dt_cn]
  | succ d ih =>
    intro k
    have h1 : dt_cn Q (d + 1 + 1) k = (if Q k = true then 1 else 0) + dt_cn Q (d + 1) (k + 1) := rfl
    have h2 : dt_cn Q (d + 1) k = (if Q k = true then 1 else 0) + dt_cn Q d (k + 1) := rfl
    rw [h1, h2, ih (k + 1), show k + 1 + d = k + (d + 1) by omega, Nat.add_assoc]
theorem dt_cn_congr {Q Q' : Nat → Bool} : ∀ d k, (∀ j, k ≤ j → j < k + d → Q j = Q' j) → dt_cn Q d k = dt_cn Q' d k := by
  intro d
  induction d with
  | zero => intro k _; rfl
  | succ d ih =>
    intro k h
    show (if Q k = true then 1 else 0) + dt_cn Q d (k + 1) = (if Q' k = true then 1 else 0) + dt_cn Q' d (k + 1)
    rw [h k (Nat.le_refl k) (by omega), ih (k + 1) (fun j h1 h2 => h j (by omega) (by omega))]
theorem dt_cn_upd {Q Q' : Nat → Bool} (s : Nat) (h : ∀ j, j ≠ s → Q' j = Q j) : ∀ d k, k ≤ s → s < k + d → dt_cn Q' d k + (if Q s = true then 1 else 0) = dt_cn Q d k + (if Q' s = true then 1 else 0) := by
  intro d
  induction d with
  | zero => intro k h1 h2; omega
  | succ d ih =>
    intro k h1 h2
    show (if Q' k = true then 1 else 0) + dt_cn Q' d (k + 1) + (if Q s = true then 1 else 0) = (if Q k = true then 1 else 0) + dt_cn Q d (k + 1) + (if Q' s = true then 1 else 0)
    by_cases hk : k = s
    · subst hk
      rw [dt_cn_congr (Q := Q') (Q' := Q) d (k + 1) (fun j h3 h4 => h j (by omega))]
      omega
    · have := ih (k + 1) (by omega) (by omega)
      rw [h k hk]
      omega
theorem dt_cn_zero {Q : Nat → Bool} : ∀ d k, (dt_cn Q d k = 0 ↔ ∀ j, k ≤ j → j < k + d → Q j = false) := by
  intro d
  induction d with
  | zero => intro k; exact ⟨fun _ j h1 h2 => by omega, fun _ => rfl⟩
  | succ d ih =>
    intro k
    have e : dt_cn Q (d + 1) k = (if Q k = true then 1 else 0) + dt_cn Q d (k + 1) := rfl
    rw [e]
    constructor
    · intro h j h1 h2
      by_cases hj : j = k
      · subst hj
        cases hq : Q j with
        | false => rfl
        | true => rw [hq] at h; simp at h
      · exact (ih (k + 1)).mp (by omega) j (by omega) (by omega)
    · intro h
      rw [h k (Nat.le_refl k) (by omega), (ih (k + 1)).mpr (fun j h1 h2 => h j (by omega) (by omega))]
      rfl
theorem dt_cn_le {Q : Nat → Bool} : ∀ d k, dt_cn Q d k ≤ d := by
  intro d
  induction d with
  | zero => intro k; exact Nat.le_refl 0
  | succ d ih =>
    intro k
    have e : dt_cn Q (d + 1) k = (if Q k = true then 1 else 0) + dt_cn Q d (k + 1) := rfl
    have := ih (k + 1)
    rw [e]
    split <;> omega
theorem dt_cn_true : ∀ d k, dt_cn (fun _ => true) d k = d := by
  intro d
  induction d with
  | zero => intro k; rfl
  | succ d ih =>
    intro k
    have e : dt_cn (fun _ => true) (d + 1) k = 1 + dt_cn (fun _ => true) d (k + 1) := rfl
    rw [e, ih]
    omega
theorem dt_cn_lt {Q : Nat → Bool} {s : Nat} (d k : Nat) (h1 : k ≤ s) (h2 : s < k + d) (h : Q s = false) : dt_cn Q d k < d := by
  have := dt_cn_upd (Q := Q) (Q' := fun j => if j = s then true else Q j) s (fun j hj => by simp [hj]) d k h1 h2
  have h3 := dt_cn_le (Q := fun j => if j = s then true else Q j) d k
  rw [if_neg (by rw [h]; decide), if_pos (by simp)] at this
  omega
theorem dt_cn_pos {Q : Nat → Bool} {s : Nat} (d k : Nat) (h1 : k ≤ s) (h2 : s < k + d) (h : Q s = true) : 0 < dt_cn Q d k := by
  rcases Nat.eq_zero_or_pos (dt_cn Q d k) with h0 | h0
  · have := (dt_cn_zero d k).mp h0 s h1 h2
    rw [h] at this
    cases this
  · exact h0
theorem dt_cn_or {A B : Nat → Bool} (h : ∀ j, ¬ (A j = true ∧ B j = true)) : ∀ d k, dt_cn (fun j => A j || B j) d k = dt_cn A d k + dt_cn B d k := by
  intro d
  induction d with
  | zero => intro k; rfl
  | succ d ih =>
    intro k
    have e1 : dt_cn (fun j => A j || B j) (d + 1) k = (if (A k || B k) = true then 1 else 0) + dt_cn (fun j => A j || B j) d (k + 1) := rfl
    have e2 : dt_cn A (d + 1) k = (if A k = true then 1 else 0) + dt_cn A d (k + 1) := rfl
    have e3 : dt_cn B (d + 1) k = (if B k = true then 1 else 0) + dt_cn B d (k + 1) := rfl
    rw [e1, e2, e3, ih (k + 1)]
    have := h k
    cases hA : A k <;> cases hB : B k <;> simp_all <;> omega
/-- the places (i, e) are e - (i + 1) -/
theorem dt_cn_btw (i e : Nat) : ∀ n, ((n ≤ i + 1 ∨ e ≤ i + 1) → dt_cn (fun k => decide (i < k ∧ k < e)) n 0 = 0) ∧ (i + 1 ≤ n → i + 1 ≤ e → n ≤ e → dt_cn (fun k => decide (i < k ∧ k < e)) n 0 + (i + 1) = n) ∧ (i + 1 ≤ e → e ≤ n → dt_cn (fun k => decide (i < k ∧ k < e)) n 0 + (i + 1) = e) := by
  intro n
  induction n with
  | zero => exact ⟨fun _ => rfl, fun h => by omega, fun h1 h2 => by omega⟩
  | succ n ih =>
    have hs := dt_cn_snoc (fun k => decide (i < k ∧ k < e)) n 0
    simp only [Nat.zero_add, decide_eq_true_eq] at hs
    rw [hs]
    generalize dt_cn (fun k => decide (i < k ∧ k < e)) n 0 = N at ih ⊢
    obtain ⟨a, b, c⟩ := ih
    by_cases c1 : i < n ∧ n < e
    · rw [if_pos c1]
      refine ⟨fun h => by omega, fun h1 h2 h3 => ?_, fun h1 h2 => ?_⟩
      · have := b (by omega) h2 (by omega); omega
      · have := b (by omega) h1 (by omega); omega
    · rw [if_neg c1]
      refine ⟨fun h => by have := a (by omega); omega, fun h1 h2 h3 => ?_, fun h1 h2 => ?_⟩
      · have := a (by omega); omega
      · by_cases h4 : e ≤ n
        · have := c h1 h4; omega
        · have := a (by omega); omega
theorem dt_cn_between (i e : Nat) (n : Nat) (h1 : i < e) (h2 : e ≤ n) : dt_cn (fun k => decide (i < k ∧ k < e)) n 0 = e - (i + 1) := by
  have h := (dt_cn_btw i e n).2.2 (by omega) h2
  omega
/-- slots that are held and places of the row are as many, by any property -/
theorem dt_bij : ∀ (n : Nat) (S : Nat → Nat) (B : Nat → Bool), (∀ k, k < n → S k < 16) → (∀ j k, j < n → k < n → S j = S k → j = k) → (∀ s, s < 16 → (B s = true ↔ ∃ k, k < n ∧ S k = s)) → ∀ Q : Nat → Bool, dt_cn (fun s => B s && Q s) 16 0 = dt_cn (fun k => Q (S k)) n 0 := by
  intro n
  induction n with
  | zero =>
    intro S B h1 h2 h3 Q
    refine ((dt_cn_zero 16 0).mpr (fun j _ hj => ?_)).trans rfl
    have : B j = false := by
      cases hb : B j with
      | false => rfl
      | true =>
        obtain ⟨k, hk, -⟩ := (h3 j (by omega)).mp hb
        omega
    simp [this]
  | succ n ih =>
    intro S B h1 h2 h3 Q
    have hS : S n < 16 := h1 n (by omega)
    have hB : B (S n) = true := (h3 (S n) hS).mpr ⟨n, by omega, rfl⟩
    have ih' := ih S (fun s => B s && !decide (s = S n)) (fun k hk => h1 k (by omega)) (fun j k hj hk => h2 j k (by omega) (by omega)) (fun s hs => by
      constructor
      · intro h
        simp at h
        obtain ⟨k, hk, e⟩ := (h3 s hs).mp h.1
        have : k ≠ n := by
          intro he
          subst he
          exact h.2 e.symm
        exact ⟨k, by omega, e⟩
      · rintro ⟨k, hk, e⟩
        have hb := (h3 s hs).mpr ⟨k, by omega, e⟩
        have : s ≠ S n := by
          intro he
          have := h2 k n (by omega) (by omega) (e.trans he)
          omega
        simp [hb, this]) Q
    have hu := dt_cn_upd (Q := fun s => B s && Q s) (Q' := fun s => (B s && !decide (s = S n)) && Q s) (S n) (fun j hj => by simp [hj]) 16 0 (by omega) (by omega)
    rw [dt_cn_snoc (fun k => Q (S k)) n 0]
    simp only [Nat.zero_add]
    rw [ih'] at hu
    simp [hB] at hu
    omega
end
section
/-! depths of a row: parents, and what they become -/
def dt_Up (P : Nat → Nat) (k j : Nat) : Prop := j < k ∧ P j < P k ∧ ∀ i, j < i → i < k → P k ≤ P i
def dt_No (P : Nat → Nat) (k : Nat) : Prop := ∀ j, j < k → P k ≤ P j
def dt_Dp (n : Nat) (P : Nat → Nat) : Prop := (0 < n → P 0 = 0) ∧ ∀ k, k + 1 < n → P (k + 1) ≤ P k + 1
/-- place k lies in the part of place i -/
def dt_Dn (P : Nat → Nat) (i k : Nat) : Prop := i < k ∧ ∀ m, i < m → m ≤ k → P i < P m
/-- e is the end of the part of place i -/
def dt_En (n : Nat) (P : Nat → Nat) (i e : Nat) : Prop := i < e ∧ e ≤ n ∧ (∀ k, i < k → k < e → P i < P k) ∧ (e < n → P e ≤ P i)
theorem dt_Up_one {P : Nat → Nat} {k j j' : Nat} (h : dt_Up P k j) (h' : dt_Up P k j') : j = j' := by
  obtain ⟨a1, a2, a3⟩ := h
  obtain ⟨b1, b2, b3⟩ := h'
  rcases Nat.lt_trichotomy j j' with h | h | h
  · have := a3 j' h b1; omega
  · exact h
  · have := b3 j h a1; omega
theorem dt_No_Up {P : Nat → Nat} {k j : Nat} (h : dt_No P k) (h' : dt_Up P k j) : False := by
  have := h j h'.1
  have := h'.2.1
  omega
theorem dt_Up_or (P : Nat → Nat) (k : Nat) : dt_No P k ∨ ∃ j, dt_Up P k j := by
  have key : ∀ d, d ≤ k → (∀ j, j < k → k ≤ j + d → P k ≤ P j) ∨ ∃ j, dt_Up P k j := by
    intro d
    induction d with
    | zero => intro _; exact Or.inl (fun j h1 h2 => by omega)
    | succ d ih =>
      intro hd
      rcases ih (by omega) with h | h
      · by_cases hp : P k ≤ P (k - (d + 1))
        · refine Or.inl (fun j h1 h2 => ?_)
          by_cases hj : j = k - (d + 1)
          · rw [hj]; exact hp
          · exact h j h1 (by omega)
        · exact Or.inr ⟨k - (d + 1), by omega, by omega, fun i h1 h2 => h i h2 (by omega)⟩
      · exact Or.inr h
  rcases key k (Nat.le_refl k) with h | h
  · exact Or.inl (fun j hj => h j hj (by omega))
  · exact Or.inr h
theorem dt_Dn_Up {P : Nat → Nat} {i k : Nat} (h : dt_Up P k i) : dt_Dn P i k := by
  obtain ⟨h1, h2, h3⟩ := h
  refine ⟨h1, fun m a b => ?_⟩
  by_cases hm : m = k
  · rw [hm]; exact h2
  · have := h3 m a (by omega); omega
theorem dt_Dn_step {P : Nat → Nat} {i k j : Nat} (h : dt_Up P k j) (hij : i ≠ j) : dt_Dn P i k ↔ dt_Dn P i j := by
  obtain ⟨h1, h2, h3⟩ := h
  constructor
  · rintro ⟨a, b⟩
    have hi : i < j := by
      rcases Nat.lt_trichotomy i j with h | h | h
      · exact h
      · exact absurd h hij
      · have := h3 i h a
        have := b k a (Nat.le_refl k)
        omega
    exact ⟨hi, fun m c d => b m c (by omega)⟩
  · rintro ⟨a, b⟩
    refine ⟨by omega, fun m c d => ?_⟩
    by_cases hm : m ≤ j
    · exact b m c hm
    · have := b j a (Nat.le_refl j)
      by_cases hk : m = k
      · rw [hk]; omega
      · have := h3 m (by omega) (by omega)
        omega
theorem dt_Dn_No {P : Nat → Nat} {i k : Nat} (h : dt_No P k) : ¬ dt_Dn P i k := by
  rintro ⟨a, b⟩
  have := h i a
  have := b k a (Nat.le_refl k)
  omega
theorem dt_Dn_En {n : Nat} {P : Nat → Nat} {i e k : Nat} (h : dt_En n P i e) (hk : k < n) : dt_Dn P i k ↔ (i < k ∧ k < e) := by
  obtain ⟨h1, h2, h3, h4⟩ := h
  constructor
  · rintro ⟨a, b⟩
    refine ⟨a, ?_⟩
    rcases Nat.lt_or_ge k e with q | q
    · exact q
    · have := h4 (by omega)
      have := b e h1 q
      omega
  · rintro ⟨a, b⟩
    exact ⟨a, fun m c d => h3 m c (by omega)⟩
/-- a child lies one deeper -/
theorem dt_child {n : Nat} {P : Nat → Nat} {i e k : Nat} (hD : dt_Dp n P) (h : dt_En n P i e) (hk : k < n) : dt_Up P k i ↔ (i < k ∧ k < e ∧ P k = P i + 1) := by
  constructor
  · intro hu
    obtain ⟨a, b⟩ := (dt_Dn_En h hk).mp (dt_Dn_Up hu)
    refine ⟨a, b, ?_⟩
    obtain ⟨u1, u2, u3⟩ := hu
    have h5 := hD.2 i (by omega)
    by_cases hi : k = i + 1
    · rw [hi] at u2 ⊢; omega
    · have := u3 (i + 1) (by omega) (by omega)
      omega
  · rintro ⟨a, b, c⟩
    refine ⟨a, by omega, fun m m1 m2 => ?_⟩
    have := h.2.2.1 m m1 (by omega)
    omega
/-! a row with one more place, behind place i -/
def dt_in (f : Nat → Nat) (i v : Nat) : Nat → Nat := fun k => if k ≤ i then f k else if k = i + 1 then v else f (k - 1)
theorem dt_in_lo {f : Nat → Nat} {i v k : Nat} (h : k ≤ i) : dt_in f i v k = f k := if_pos h
theorem dt_in_at {f : Nat → Nat} {i v : Nat} : dt_in f i v (i + 1) = v := by
  unfold dt_in
  rw [if_neg (by omega), if_pos rfl]
theorem dt_in_hi {f : Nat → Nat} {i v k : Nat} (h : i < k) : dt_in f i v (k + 1) = f k := by
  unfold dt_in
  rw [if_neg (by omega), if_neg (by omega), Nat.add_sub_cancel]
theorem dt_in_Dp {n : Nat} {P : Nat → Nat} {i : Nat} (h : dt_Dp n P) (hi : i < n) : dt_Dp (n + 1) (dt_in P i (P i + 1)) := by
  refine ⟨fun _ => by rw [dt_in_lo (Nat.zero_le i)]; exact h.1 (by omega), fun k hk => ?_⟩
  rcases Nat.lt_trichotomy k i with q | q | q
  · rw [dt_in_lo (by omega), dt_in_lo (by omega)]; exact h.2 k (by omega)
  · rw [q, dt_in_at, dt_in_lo (Nat.le_refl i)]; exact Nat.le_refl _
  · by_cases hk1 : k = i + 1
    · subst hk1
      rw [dt_in_hi (by omega), dt_in_at]
      have := h.2 i (by omega)
      omega
    · obtain ⟨k', rfl⟩ : ∃ k', k = k' + 1 := ⟨k - 1, by omega⟩
      rw [dt_in_hi (by omega), dt_in_hi (by omega)]
      exact h.2 k' (by omega)
theorem dt_in_No1 {P : Nat → Nat} {i v k : Nat} (hk : k ≤ i) (h : dt_No P k) : dt_No (dt_in P i v) k := by
  intro j hj
  rw [dt_in_lo hk, dt_in_lo (by omega)]
  exact h j hj
theorem dt_in_Up1 {P : Nat → Nat} {i v k j : Nat} (hk : k ≤ i) (h : dt_Up P k j) : dt_Up (dt_in P i v) k j := by
  obtain ⟨h1, h2, h3⟩ := h
  refine ⟨h1, by rw [dt_in_lo hk, dt_in_lo (by omega)]; exact h2, fun m a b => ?_⟩
  rw [dt_in_lo hk, dt_in_lo (by omega)]
  exact h3 m a b
theorem dt_in_Up2 {P : Nat → Nat} {i : Nat} : dt_Up (dt_in P i (P i + 1)) (i + 1) i := by
  refine ⟨by omega, by rw [dt_in_at, dt_in_lo (Nat.le_refl i)]; omega, fun m a b => by omega⟩
theorem dt_in_No3 {P : Nat → Nat} {i k : Nat} (hk : i < k) (h : dt_No P k) : dt_No (dt_in P i (P i + 1)) (k + 1) := by
  intro j hj
  rw [dt_in_hi hk]
  rcases Nat.lt_trichotomy j (i + 1) with q | q | q
  · rw [dt_in_lo (by omega)]; exact h j (by omega)
  · rw [q, dt_in_at]
    have := h i hk
    omega
  · obtain ⟨j', rfl⟩ : ∃ j', j = j' + 1 := ⟨j - 1, by omega⟩
    rw [dt_in_hi (by omega)]
    exact h j' (by omega)
theorem dt_in_Up3 {n : Nat} {P : Nat → Nat} {i k j : Nat} (hD : dt_Dp n P) (hkn : k < n) (hk : i < k) (h : dt_Up P k j) : dt_Up (dt_in P i (P i + 1)) (k + 1) (if j ≤ i then j else j + 1) := by
  obtain ⟨h1, h2, h3⟩ := h
  by_cases hj : j ≤ i
  · rw [if_pos hj]
    refine ⟨by omega, by rw [dt_in_lo hj, dt_in_hi hk]; exact h2, fun m a b => ?_⟩
    rw [dt_in_hi hk]
    rcases Nat.lt_trichotomy m (i + 1) with q | q | q
    · rw [dt_in_lo (by omega)]; exact h3 m a (by omega)
    · rw [q, dt_in_at]
      by_cases hji : j = i
      · have h5 := hD.2 i (by omega)
        by_cases hk1 : k = i + 1
        · rw [hk1]; exact h5
        · have := h3 (i + 1) (by omega) (by omega)
          omega
      · have := h3 i (by omega) hk
        omega
    · obtain ⟨m', rfl⟩ : ∃ m', m = m' + 1 := ⟨m - 1, by omega⟩
      rw [dt_in_hi (by omega)]
      exact h3 m' (by omega) (by omega)
  · rw [if_neg hj]
    refine ⟨by omega, by rw [dt_in_hi (by omega), dt_in_hi hk]; exact h2, fun m a b => ?_⟩
    obtain ⟨m', rfl⟩ : ∃ m', m = m' + 1 := ⟨m - 1, by omega⟩
    rw [dt_in_hi hk, dt_in_hi (by omega)]
    exact h3 m' (by omega) (by omega)
/-! a row without the places a, a + 1 .. a + g - 1 -/
def dt_ph (a g k : Nat) : Nat := if k < a then k else k + g
theorem dt_ph_lo {a g k : Nat} (h : k < a) : dt_ph a g k = k := if_pos h
theorem dt_ph_hi {a g k : Nat} (h : a ≤ k) : dt_ph a g k = k + g := if_neg (by omega)
theorem dt_ph_out (a g k : Nat) : dt_ph a g k < a ∨ a + g ≤ dt_ph a g k := by
  unfold dt_ph
  split <;> omega
theorem dt_ph_lt {a g j k : Nat} (h : j < k) : dt_ph a g j < dt_ph a g k := by
  unfold dt_ph
  split <;> split <;> omega
theorem dt_ph_inj {a g j k : Nat} (h : dt_ph a g j = dt_ph a g k) : j = k := by
  unfold dt_ph at h
  split at h <;> split at h <;> omega
theorem dt_ph_of {a g q : Nat} (h : q < a ∨ a + g ≤ q) : ∃ k, dt_ph a g k = q := by
  rcases h with h | h
  · exact ⟨q, dt_ph_lo h⟩
  · exact ⟨q - g, by rw [dt_ph_hi (by omega)]; omega⟩
theorem dt_ph_lt' {a g j k : Nat} (h : dt_ph a g j < dt_ph a g k) : j < k := by
  unfold dt_ph at h
  split at h <;> split at h <;> omega
theorem dt_ph_n {a g n k : Nat} (h : k + g < n) : dt_ph a g k < n := by
  unfold dt_ph
  split <;> omega
theorem dt_ph_n' {a g n k : Nat} (ha : a + g ≤ n) (h : dt_ph a g k < n) : k + g < n ∨ k < a := by
  unfold dt_ph at h
  split at h <;> omega
/-- who is no part of i's part has no parent in it -/
theorem dt_far {n : Nat} {P : Nat → Nat} {i e q j : Nat} (h : dt_En n P i e) (hq : q < n) (he : e ≤ q) (hu : dt_Up P q j) : j < i ∨ e ≤ j := by
  obtain ⟨h1, h2, h3, h4⟩ := h
  obtain ⟨u1, u2, u3⟩ := hu
  have h5 := h4 (by omega)
  rcases Nat.lt_or_ge j i with c | c
  · exact Or.inl c
  · rcases Nat.lt_or_ge j e with d | d
    · have hij : P i ≤ P j := by
        by_cases hji : j = i
        · rw [hji]; exact Nat.le_refl _
        · have := h3 j (by omega) d; omega
      by_cases hqe : q = e
      · rw [hqe] at u2; omega
      · have := u3 e d (by omega)
        omega
    · exact Or.inr d
/-- revoke: the part behind i goes -/
theorem dt_rv_Dp {n : Nat} {P : Nat → Nat} {i e : Nat} (hD : dt_Dp n P) (h : dt_En n P i e) : dt_Dp (n - (e - (i + 1))) (fun k => P (dt_ph (i + 1) (e - (i + 1)) k)) := by
  obtain ⟨h1, h2, h3, h4⟩ := h
  refine ⟨fun _ => ?_, fun k hk => ?_⟩
  · show P (dt_ph (i + 1) (e - (i + 1)) 0) = 0
    rw [dt_ph_lo (by omega)]
    exact hD.1 (by omega)
  · show P (dt_ph (i + 1) (e - (i + 1)) (k + 1)) ≤ P (dt_ph (i + 1) (e - (i + 1)) k) + 1
    rcases Nat.lt_trichotomy k i with q | q | q
    · rw [dt_ph_lo (by omega), dt_ph_lo (by omega)]; exact hD.2 k (by omega)
    · rw [dt_ph_hi (by omega), dt_ph_lo (by omega), q, show i + 1 + (e - (i + 1)) = e by omega]
      have := h4 (by omega)
      omega
    · rw [dt_ph_hi (by omega), dt_ph_hi (by omega), show k + 1 + (e - (i + 1)) = k + (e - (i + 1)) + 1 by omega]
      exact hD.2 _ (by omega)
theorem dt_rv_No {P : Nat → Nat} {a g k : Nat} (h : dt_No P (dt_ph a g k)) : dt_No (fun k => P (dt_ph a g k)) k := fun j hj => h _ (dt_ph_lt hj)
theorem dt_rv_Up {P : Nat → Nat} {a g k j : Nat} (h : dt_Up P (dt_ph a g k) (dt_ph a g j)) : dt_Up (fun k => P (dt_ph a g k)) k j :=
  ⟨dt_ph_lt' h.1, h.2.1, fun m a b => h.2.2 _ (dt_ph_lt a) (dt_ph_lt b)⟩
/-! delete: place i goes, its part is lifted -/
def dt_lift (P : Nat → Nat) (i e : Nat) : Nat → Nat := fun k => if i < k ∧ k < e then P k - 1 else P k
theorem dt_lift_in {P : Nat → Nat} {i e k : Nat} (h1 : i < k) (h2 : k < e) : dt_lift P i e k = P k - 1 := if_pos ⟨h1, h2⟩
theorem dt_lift_out {P : Nat → Nat} {i e k : Nat} (h : k ≤ i ∨ e ≤ k) : dt_lift P i e k = P k := if_neg (by omega)
theorem dt_dl_Dp {n : Nat} {P : Nat → Nat} {i e : Nat} (hD : dt_Dp n P) (h : dt_En n P i e) : dt_Dp (n - 1) (fun k => dt_lift P i e (dt_ph i 1 k)) := by
  obtain ⟨h1, h2, h3, h4⟩ := h
  refine ⟨fun hn => ?_, fun k hk => ?_⟩
  · show dt_lift P i e (dt_ph i 1 0) = 0
    have h0 := hD.1 (by omega)
    by_cases hi : i = 0
    · subst hi
      rw [dt_ph_hi (Nat.le_refl 0)]
      have h5 := hD.2 0 (by omega)
      by_cases he : 0 + 1 < e
      · rw [dt_lift_in (by omega) he]; omega
      · rw [dt_lift_out (by omega)]
        have := h4 (by omega)
        have : e = 0 + 1 := by omega
        subst this
        omega
    · rw [dt_ph_lo (by omega), dt_lift_out (by omega)]
      exact h0
  · show dt_lift P i e (dt_ph i 1 (k + 1)) ≤ dt_lift P i e (dt_ph i 1 k) + 1
    rcases Nat.lt_or_ge (k + 1) i with q | q
    · rw [dt_ph_lo (by omega), dt_ph_lo (by omega), dt_lift_out (by omega), dt_lift_out (by omega)]
      exact hD.2 k (by omega)
    · rw [dt_ph_hi (k := k + 1) q]
      have h5 := hD.2 (k + 1) (by omega)
      by_cases hki : k + 1 = i
      · rw [dt_ph_lo (by omega), dt_lift_out (k := k) (by omega)]
        have h6 := hD.2 k (by omega)
        by_cases he : k + 1 + 1 < e
        · rw [dt_lift_in (by omega) he]
          omega
        · rw [dt_lift_out (by omega)]
          have h7 := h4 (by omega)
          have : e = k + 1 + 1 := by omega
          rw [this, ← hki] at h7
          omega
      · rw [dt_ph_hi (k := k) (by omega)]
        by_cases he : k + 1 + 1 < e
        · rw [dt_lift_in (by omega) he, dt_lift_in (by omega) (by omega)]
          omega
        · rw [dt_lift_out (k := k + 1 + 1) (by omega)]
          by_cases he2 : k + 1 < e
          · rw [dt_lift_in (by omega) he2]
            have h7 := h4 (by omega)
            have h8 := h3 (k + 1) (by omega) he2
            have : e = k + 1 + 1 := by omega
            rw [this] at h7
            omega
          · rw [dt_lift_out (by omega)]
            exact h5
theorem dt_dl_gone_No {n : Nat} {P : Nat → Nat} {i e k : Nat} (hD : dt_Dp n P) (h : dt_En n P i e) (hk : dt_ph i 1 k < n) (hu : dt_Up P (dt_ph i 1 k) i) (hi : dt_No P i) : dt_No (fun k => dt_lift P i e (dt_ph i 1 k)) k := by
  obtain ⟨a, b, c⟩ := (dt_child hD h hk).mp hu
  intro j hj
  show dt_lift P i e (dt_ph i 1 k) ≤ dt_lift P i e (dt_ph i 1 j)
  have hj2 := dt_ph_lt (a := i) (g := 1) hj
  rw [dt_lift_in a b]
  rcases dt_ph_out i 1 j with q | q
  · rw [dt_lift_out (by omega)]
    have := hi _ q
    omega
  · rw [dt_lift_in (by omega) (by omega)]
    have := h.2.2.1 (dt_ph i 1 j) (by omega) (by omega)
    omega
theorem dt_dl_gone_Up {n : Nat} {P : Nat → Nat} {i e k r : Nat} (hD : dt_Dp n P) (h : dt_En n P i e) (hk : dt_ph i 1 k < n) (hu : dt_Up P (dt_ph i 1 k) i) (hi : dt_Up P i r) : dt_Up (fun k => dt_lift P i e (dt_ph i 1 k)) k r := by
  obtain ⟨a, b, c⟩ := (dt_child hD h hk).mp hu
  obtain ⟨r1, r2, r3⟩ := hi
  have hr : dt_ph i 1 r = r := dt_ph_lo r1
  have hrk : r < k := dt_ph_lt' (a := i) (g := 1) (by omega)
  refine ⟨hrk, ?_, fun m m1 m2 => ?_⟩
  · show dt_lift P i e (dt_ph i 1 r) < dt_lift P i e (dt_ph i 1 k)
    rw [dt_lift_in a b, hr, dt_lift_out (by omega)]
    omega
  · show dt_lift P i e (dt_ph i 1 k) ≤ dt_lift P i e (dt_ph i 1 m)
    have e1 := dt_ph_lt (a := i) (g := 1) m1
    have e2 := dt_ph_lt (a := i) (g := 1) m2
    rw [dt_lift_in a b]
    rcases dt_ph_out i 1 m with q | q
    · rw [dt_lift_out (by omega)]
      have := r3 _ (by omega) q
      omega
    · rw [dt_lift_in (by omega) (by omega)]
      have := h.2.2.1 (dt_ph i 1 m) (by omega) (by omega)
      omega
theorem dt_dl_No {n : Nat} {P : Nat → Nat} {i e k : Nat} (h : dt_En n P i e) (hu : dt_No P (dt_ph i 1 k)) : dt_No (fun k => dt_lift P i e (dt_ph i 1 k)) k := by
  obtain ⟨h1, h2, h3, h4⟩ := h
  intro j hj
  show dt_lift P i e (dt_ph i 1 k) ≤ dt_lift P i e (dt_ph i 1 j)
  have e1 := dt_ph_lt (a := i) (g := 1) hj
  have e2 := hu _ e1
  have hout : dt_ph i 1 k ≤ i ∨ e ≤ dt_ph i 1 k := by
    rcases Nat.lt_or_ge i (dt_ph i 1 k) with q | q
    · rcases Nat.lt_or_ge (dt_ph i 1 k) e with q2 | q2
      · have := h3 _ q q2
        have := hu i q
        omega
      · exact Or.inr q2
    · exact Or.inl q
  rw [dt_lift_out hout]
  by_cases hj2 : i < dt_ph i 1 j ∧ dt_ph i 1 j < e
  · rw [dt_lift_in hj2.1 hj2.2]
    have := h3 _ hj2.1 hj2.2
    have := hu i (by omega)
    omega
  · rw [dt_lift_out (by omega)]
    exact e2
theorem dt_dl_Up {n : Nat} {P : Nat → Nat} {i e k j : Nat} (h : dt_En n P i e) (hk : dt_ph i 1 k < n) (hu : dt_Up P (dt_ph i 1 k) (dt_ph i 1 j)) : dt_Up (fun k => dt_lift P i e (dt_ph i 1 k)) k j := by
  have hfar := fun q => dt_far (q := dt_ph i 1 k) h hk q hu
  obtain ⟨h1, h2, h3, h4⟩ := h
  obtain ⟨u1, u2, u3⟩ := hu
  have hjo := dt_ph_out i 1 j
  have hko := dt_ph_out i 1 k
  -- where j lies if k lies in the part
  have hin : i < dt_ph i 1 k → dt_ph i 1 k < e → i < dt_ph i 1 j := by
    intro a b
    rcases hjo with q | q
    · have := u3 i q a
      have := h3 _ a b
      omega
    · omega
  refine ⟨dt_ph_lt' u1, ?_, fun m m1 m2 => ?_⟩
  · show dt_lift P i e (dt_ph i 1 j) < dt_lift P i e (dt_ph i 1 k)
    by_cases hk2 : i < dt_ph i 1 k ∧ dt_ph i 1 k < e
    · have hj2 := hin hk2.1 hk2.2
      rw [dt_lift_in hk2.1 hk2.2, dt_lift_in hj2 (by omega)]
      have := h3 _ hj2 (by omega)
      omega
    · rw [dt_lift_out (k := dt_ph i 1 k) (by omega)]
      by_cases hj2 : i < dt_ph i 1 j ∧ dt_ph i 1 j < e
      · rw [dt_lift_in hj2.1 hj2.2]; omega
      · rw [dt_lift_out (by omega)]; exact u2
  · show dt_lift P i e (dt_ph i 1 k) ≤ dt_lift P i e (dt_ph i 1 m)
    have e1 := dt_ph_lt (a := i) (g := 1) m1
    have e2 := dt_ph_lt (a := i) (g := 1) m2
    have e3 := u3 _ e1 e2
    by_cases hk2 : i < dt_ph i 1 k ∧ dt_ph i 1 k < e
    · have hj2 := hin hk2.1 hk2.2
      rw [dt_lift_in hk2.1 hk2.2, dt_lift_in (by omega) (by omega)]
      omega
    · rw [dt_lift_out (k := dt_ph i 1 k) (by omega)]
      by_cases hm2 : i < dt_ph i 1 m ∧ dt_ph i 1 m < e
      · rw [dt_lift_in hm2.1 hm2.2]
        have h5 := h3 _ hm2.1 hm2.2
        have hke : e ≤ dt_ph i 1 k := by omega
        have hji : dt_ph i 1 j < i := by
          rcases hfar hke with q | q
          · exact q
          · omega
        have := u3 i hji (by omega)
        omega
      · rw [dt_lift_out (by omega)]
        exact e3
end
section
/-! the loops, in closed form -/
theorem dt_b_f {b : Bool} : dt_b b = 0 ↔ b = false := by cases b <;> decide
theorem dt_b_t {b : Bool} : ¬ dt_b b = 0 ↔ b = true := by cases b <;> decide
theorem dt_m1 : ((-1 : Int32) < 0) := by decide
theorem dt_m1_ne {a : Nat} (h : a < 2 ^ 31) : nI a ≠ -1 := fun q => nI_pos h (by rw [q]; exact dt_m1)
theorem dt_rng {x : Int32} : (¬ x < 0 ∧ ¬ 15 < x) ↔ ∃ s, s < 16 ∧ x = nI s := by
  constructor
  · rintro ⟨h1, h2⟩
    obtain ⟨j, hj, e⟩ := nI_of2 (x := x) (M := 15) (n := 15) (by decide) h1 (Int32.not_lt.mp h2)
    exact ⟨j, by omega, e⟩
  · rintro ⟨s, hs, rfl⟩
    exact ⟨nI_pos (by omega), (show ¬ nI 15 < nI s from nI_nlt (by omega) (by decide))⟩
theorem dt_hd_iff {pc : dt_F} {x : Int32} : dt_hd pc x = true ↔ ∃ s, s < 16 ∧ x = nI s ∧ ¬ pc s < 0 := by
  unfold dt_hd
  simp only [Bool.and_eq_true, Bool.not_eq_true', decide_eq_false_iff_not]
  constructor
  · rintro ⟨h1, h2, h3⟩
    obtain ⟨s, hs, rfl⟩ := dt_rng.mp ⟨h1, h2⟩
    rw [nI_clamp (by omega)] at h3
    exact ⟨s, hs, rfl, h3⟩
  · rintro ⟨s, hs, rfl, h3⟩
    obtain ⟨h1, h2⟩ := dt_rng.mpr ⟨s, hs, rfl⟩
    exact ⟨h1, h2, by rw [nI_clamp (by omega)]; exact h3⟩
theorem dt_fr_iff {pc : dt_F} {x : Int32} : dt_fr pc x = true ↔ ∃ s, s < 16 ∧ x = nI s ∧ pc s < 0 := by
  unfold dt_fr
  simp only [Bool.and_eq_true, Bool.not_eq_true', decide_eq_false_iff_not, decide_eq_true_eq]
  constructor
  · rintro ⟨h1, h2, h3⟩
    obtain ⟨s, hs, rfl⟩ := dt_rng.mp ⟨h1, h2⟩
    rw [nI_clamp (by omega)] at h3
    exact ⟨s, hs, rfl, h3⟩
  · rintro ⟨s, hs, rfl, h3⟩
    obtain ⟨h1, h2⟩ := dt_rng.mpr ⟨s, hs, rfl⟩
    exact ⟨h1, h2, by rw [nI_clamp (by omega)]; exact h3⟩
theorem dt_ms_iff {hd : dt_F} {x : Int32} : dt_ms hd x = false ↔ ∃ s, s < 16 ∧ x = nI s ∧ ¬ hd s = 0 := by
  unfold dt_ms
  simp only [Bool.or_eq_false_iff, decide_eq_false_iff_not]
  constructor
  · rintro ⟨h1, h2, h3⟩
    obtain ⟨s, hs, rfl⟩ := dt_rng.mp ⟨h1, h2⟩
    rw [nI_clamp (by omega)] at h3
    exact ⟨s, hs, rfl, h3⟩
  · rintro ⟨s, hs, rfl, h3⟩
    obtain ⟨h1, h2⟩ := dt_rng.mpr ⟨s, hs, rfl⟩
    exact ⟨h1, h2, by rw [nI_clamp (by omega)]; exact h3⟩
theorem dt_tk_iff {hd : dt_F} {x : Int32} : dt_tk hd x = false ↔ ∃ s, s < 16 ∧ x = nI s ∧ hd s = 0 := by
  unfold dt_tk
  simp only [Bool.or_eq_false_iff, decide_eq_false_iff_not, Bool.not_eq_false', decide_eq_true_eq]
  constructor
  · rintro ⟨h1, h2, h3⟩
    obtain ⟨s, hs, rfl⟩ := dt_rng.mp ⟨h1, h2⟩
    rw [nI_clamp (by omega)] at h3
    exact ⟨s, hs, rfl, h3⟩
  · rintro ⟨s, hs, rfl, h3⟩
    obtain ⟨h1, h2⟩ := dt_rng.mpr ⟨s, hs, rfl⟩
    exact ⟨h1, h2, by rw [nI_clamp (by omega)]; exact h3⟩
theorem dt_plc_eq {sl : dt_F} {x : Int32} {k : Nat} : ∀ n, k < n → sl k = x → (∀ j, j < n → sl j = x → j = k) → dt_plc sl x n = k := by
  intro n
  induction n with
  | zero => intro h; omega
  | succ n ih =>
    intro h1 h2 h3
    show (if sl n = x then n else dt_plc sl x n) = k
    by_cases hn : sl n = x
    · rw [if_pos hn]; exact h3 n (by omega) hn
    · rw [if_neg hn]
      have : k ≠ n := by
        intro e
        subst e
        exact hn h2
      exact ih (by omega) h2 (fun j hj => h3 j (by omega))
theorem dt_plc_le (sl : dt_F) (x : Int32) : ∀ n, 0 < n → dt_plc sl x n < n := by
  intro n
  induction n with
  | zero => intro h; omega
  | succ n ih =>
    intro _
    show (if sl n = x then n else dt_plc sl x n) < n + 1
    split
    · omega
    · rcases Nat.eq_zero_or_pos n with h | h
      · subst h; exact Nat.lt_succ_self 0
      · have := ih h; omega
theorem dt_eop_le (dp : dt_F) (i : Nat) : ∀ t, i < dt_eop dp i t ∧ dt_eop dp i t ≤ i + 1 + t := by
  intro t
  induction t with
  | zero => exact ⟨Nat.lt_succ_self i, Nat.le_refl _⟩
  | succ t ih =>
    show i < (if dt_eop dp i t = i + 1 + t ∧ dp i < dp (i + 1 + t) then i + 1 + t + 1 else dt_eop dp i t) ∧ (if dt_eop dp i t = i + 1 + t ∧ dp i < dp (i + 1 + t) then i + 1 + t + 1 else dt_eop dp i t) ≤ i + 1 + (t + 1)
    split <;> omega
theorem dt_eop_ok (dp : dt_F) (i : Nat) : ∀ t, (∀ k, i < k → k < dt_eop dp i t → dp i < dp k) ∧ (dt_eop dp i t < i + 1 + t → ¬ dp i < dp (dt_eop dp i t)) := by
  intro t
  induction t with
  | zero => exact ⟨fun k h1 h2 => by have : k < i + 1 := h2; omega, fun h => by have : i + 1 < i + 1 := h; omega⟩
  | succ t ih =>
    have hle := dt_eop_le dp i t
    have e : dt_eop dp i (t + 1) = (if dt_eop dp i t = i + 1 + t ∧ dp i < dp (i + 1 + t) then i + 1 + t + 1 else dt_eop dp i t) := rfl
    by_cases hc : dt_eop dp i t = i + 1 + t ∧ dp i < dp (i + 1 + t)
    · rw [if_pos hc] at e
      rw [e]
      refine ⟨fun k h1 h2 => ?_, fun h => by omega⟩
      by_cases hk : k = i + 1 + t
      · rw [hk]; exact hc.2
      · exact ih.1 k h1 (by omega)
    · rw [if_neg hc] at e
      rw [e]
      refine ⟨ih.1, fun h => ?_⟩
      by_cases h2 : dt_eop dp i t = i + 1 + t
      · rw [h2]; exact fun q => hc ⟨h2, q⟩
      · exact ih.2 (by omega)
theorem dt_end_le {dp : dt_F} {n i : Nat} (hi : i < n) : i < dt_end dp n i ∧ dt_end dp n i ≤ n := by
  have := dt_eop_le dp i (n - (i + 1))
  unfold dt_end
  omega
theorem dt_end_En {dp : dt_F} {n i : Nat} {P : Nat → Nat} (hi : i < n) (hd : ∀ k, k < n → dp k = nI (P k) ∧ P k < 2 ^ 31) : dt_En n P i (dt_end dp n i) := by
  have hle := dt_end_le (dp := dp) hi
  have hok := dt_eop_ok dp i (n - (i + 1))
  refine ⟨hle.1, hle.2, fun k h1 h2 => ?_, fun h => ?_⟩
  · have h3 := hok.1 k h1 h2
    rw [(hd i hi).1, (hd k (by omega)).1, nI_ltI (hd i hi).2 (hd k (by omega)).2] at h3
    exact h3
  · have h3 := hok.2 (by unfold dt_end at h; omega)
    have h4 : ¬ dp i < dp (dt_end dp n i) := h3
    rw [(hd i hi).1, (hd _ h).1, nI_ltI (hd i hi).2 (hd _ h).2] at h4
    omega
theorem dt_shu_eq (P : Nat) : ∀ d f j, dt_shu P d f j = if P < j ∧ j ≤ P + d then f (j - 1) else f j := by
  intro d
  induction d with
  | zero =>
    intro f j
    rw [if_neg (by omega)]
    rfl
  | succ d ih =>
    intro f j
    show dt_shu P d (upd f (P + d + 1) (f (P + d))) j = _
    rw [ih]
    by_cases h1 : P < j ∧ j ≤ P + d
    · rw [if_pos h1, if_pos (by omega), pk_un (by omega)]
    · rw [if_neg h1]
      by_cases h2 : j = P + d + 1
      · rw [if_pos (by omega), h2, pk_us]
        rfl
      · rw [if_neg (by omega), pk_un h2]
theorem dt_shd_eq (g : Nat) : ∀ d k f j, g ≤ k → dt_shd g d k f j = if k ≤ j + g ∧ j + g < k + d then f (j + g) else f j := by
  intro d
  induction d with
  | zero =>
    intro k f j _
    rw [if_neg (by omega)]
    rfl
  | succ d ih =>
    intro k f j hg
    show dt_shd g d (k + 1) (upd f (k - g) (f k)) j = _
    rw [ih (k + 1) _ j (by omega)]
    by_cases h1 : k + 1 ≤ j + g ∧ j + g < k + 1 + d
    · rw [if_pos h1, if_pos (by omega), pk_un (by omega)]
    · rw [if_neg h1]
      by_cases h2 : j = k - g
      · rw [if_pos (by omega), h2, pk_us, show k - g + g = k by omega]
      · rw [if_neg (by omega), pk_un h2]
theorem dt_fpc_none (kt : dt_F) : ∀ d f, (∀ p, p < d → ¬ kt p = 0) → dt_fpc kt d f = f := by
  intro d
  induction d with
  | zero => intro f _; rfl
  | succ d ih =>
    intro f h
    show dt_fpc kt d (if kt d = 0 then d else f) = f
    rw [if_neg (h d (by omega)), ih f (fun p hp => h p (by omega))]
theorem dt_fpc_some (kt : dt_F) : ∀ d f, (∃ p, p < d ∧ kt p = 0) → dt_fpc kt d f < d ∧ kt (dt_fpc kt d f) = 0 ∧ ∀ p, p < dt_fpc kt d f → ¬ kt p = 0 := by
  intro d
  induction d with
  | zero => rintro f ⟨p, h, -⟩; omega
  | succ d ih =>
    intro f h
    have e : dt_fpc kt (d + 1) f = dt_fpc kt d (if kt d = 0 then d else f) := rfl
    rw [e]
    by_cases h2 : ∃ p, p < d ∧ kt p = 0
    · obtain ⟨a, b, c⟩ := ih (if kt d = 0 then d else f) h2
      exact ⟨by omega, b, c⟩
    · have h3 : ∀ p, p < d → ¬ kt p = 0 := fun p hp q => h2 ⟨p, hp, q⟩
      obtain ⟨p, hp, hk⟩ := h
      have hpd : p = d := by
        rcases Nat.lt_or_ge p d with q | q
        · exact absurd hk (h3 p q)
        · omega
      subst hpd
      rw [if_pos hk, dt_fpc_none kt p p h3]
      exact ⟨by omega, hk, h3⟩
theorem dt_fpc_lt (kt : dt_F) : dt_fpc kt 16 0 < 16 := by
  by_cases h : ∃ p, p < 16 ∧ kt p = 0
  · exact (dt_fpc_some kt 16 0 h).1
  · rw [dt_fpc_none kt 16 0 (fun p hp q => h ⟨p, hp, q⟩)]
    omega
theorem dt_th_iff {hd pc : dt_F} {x : Int32} : ∀ d k, dt_th hd pc x d k = true ↔ ∃ s, k ≤ s ∧ s < k + d ∧ ¬ hd s = 0 ∧ pc s = x := by
  intro d
  induction d with
  | zero => intro k; exact ⟨fun h => (by cases h), fun ⟨s, h1, h2, _⟩ => by omega⟩
  | succ d ih =>
    intro k
    have e : dt_th hd pc x (d + 1) k = ((!decide (hd k = 0) && decide (pc k = x)) || dt_th hd pc x d (k + 1)) := rfl
    rw [e, Bool.or_eq_true, ih (k + 1)]
    simp only [Bool.and_eq_true, Bool.not_eq_true', decide_eq_false_iff_not, decide_eq_true_eq]
    constructor
    · rintro (h | ⟨s, h1, h2, h3⟩)
      · exact ⟨k, by omega, by omega, h⟩
      · exact ⟨s, by omega, by omega, h3⟩
    · rintro ⟨s, h1, h2, h3⟩
      by_cases hs : s = k
      · subst hs; exact Or.inl h3
      · exact Or.inr ⟨s, by omega, by omega, h3⟩
theorem dt_ho_iff {st sz kt nb : dt_F} {p : Nat} : ∀ d k, dt_ho st sz kt nb p d k = true ↔ ∃ q, k ≤ q ∧ q < k + d ∧ 0 < kt q ∧ dt_ls st sz nb q p = true := by
  intro d
  induction d with
  | zero => intro k; exact ⟨fun h => (by cases h), fun ⟨s, h1, h2, _⟩ => by omega⟩
  | succ d ih =>
    intro k
    have e : dt_ho st sz kt nb p (d + 1) k = ((decide (0 < kt k) && dt_ls st sz nb k p) || dt_ho st sz kt nb p d (k + 1)) := rfl
    rw [e, Bool.or_eq_true, ih (k + 1)]
    simp only [Bool.and_eq_true, decide_eq_true_eq]
    constructor
    · rintro (h | ⟨s, h1, h2, h3⟩)
      · exact ⟨k, by omega, by omega, h⟩
      · exact ⟨s, by omega, by omega, h3⟩
    · rintro ⟨s, h1, h2, h3⟩
      by_cases hs : s = k
      · subst hs; exact Or.inl h3
      · exact Or.inr ⟨s, by omega, by omega, h3⟩
theorem dt_an_iff {hd pc st sz nb : dt_F} {p : Nat} : ∀ d k b, dt_an hd pc st sz nb p d k b = true ↔ b = true ∨ ∃ q, k ≤ q ∧ q < k + d ∧ dt_ls st sz nb q p = true ∧ dt_th hd pc (nI q) 16 0 = true := by
  intro d
  induction d with
  | zero =>
    intro k b
    constructor
    · intro h; exact Or.inl h
    · rintro (h | ⟨s, h1, h2, _⟩)
      · exact h
      · omega
  | succ d ih =>
    intro k b
    have e : dt_an hd pc st sz nb p (d + 1) k b = dt_an hd pc st sz nb p d (k + 1) (if dt_ls st sz nb k p = true ∧ dt_th hd pc (nI k) 16 0 = true then true else b) := rfl
    rw [e, ih]
    constructor
    · rintro (h | ⟨s, h1, h2, h3⟩)
      · by_cases hc : dt_ls st sz nb k p = true ∧ dt_th hd pc (nI k) 16 0 = true
        · exact Or.inr ⟨k, by omega, by omega, hc⟩
        · rw [if_neg hc] at h; exact Or.inl h
      · exact Or.inr ⟨s, by omega, by omega, h3⟩
    · rintro (h | ⟨s, h1, h2, h3⟩)
      · refine Or.inl ?_
        rw [h]
        split <;> rfl
      · by_cases hs : s = k
        · subst hs
          exact Or.inl (if_pos h3)
        · exact Or.inr ⟨s, by omega, by omega, h3⟩
theorem dt_rs_eq (st sz kt nb : dt_F) : ∀ d k mr j, dt_rs st sz kt nb d k mr j = if (k ≤ j ∧ j < k + d) ∧ (0 < kt j ∧ 0 < mr j ∧ dt_ho st sz kt nb j 16 0 = false) then 0 else mr j := by
  intro d
  induction d with
  | zero =>
    intro k mr j
    rw [if_neg (by omega)]
    rfl
  | succ d ih =>
    intro k mr j
    show dt_rs st sz kt nb d (k + 1) (if 0 < kt k ∧ 0 < mr k ∧ dt_ho st sz kt nb k 16 0 = false then upd mr k 0 else mr) j = _
    rw [ih]
    by_cases hj : j = k
    · subst hj
      rw [if_neg (fun q => by have := q.1; omega)]
      by_cases hc : 0 < kt j ∧ 0 < mr j ∧ dt_ho st sz kt nb j 16 0 = false
      · rw [if_pos hc, if_pos ⟨by omega, hc⟩, pk_us]
      · rw [if_neg hc, if_neg (fun q => hc q.2)]
    · have hm : (if 0 < kt k ∧ 0 < mr k ∧ dt_ho st sz kt nb k 16 0 = false then upd mr k 0 else mr) j = mr j := by
        split
        · exact pk_un hj
        · rfl
      rw [hm]
      by_cases hr : k + 1 ≤ j ∧ j < k + 1 + d
      · have hr2 : k ≤ j ∧ j < k + (d + 1) := by omega
        simp only [hr, hr2, true_and, and_self]
      · have hr2 : ¬ (k ≤ j ∧ j < k + (d + 1)) := by omega
        simp only [hr, hr2, false_and, if_false]
theorem dt_se_eq (hd pc st sz nb : dt_F) : ∀ d k mr j, dt_se hd pc st sz nb d k mr j = if (k ≤ j ∧ j < k + d) ∧ dt_an hd pc st sz nb j 16 0 false = false then 0 else mr j := by
  intro d
  induction d with
  | zero =>
    intro k mr j
    rw [if_neg (by omega)]
    rfl
  | succ d ih =>
    intro k mr j
    show dt_se hd pc st sz nb d (k + 1) (if dt_an hd pc st sz nb k 16 0 false = false then upd mr k 0 else mr) j = _
    rw [ih]
    by_cases hj : j = k
    · subst hj
      rw [if_neg (fun q => by have := q.1; omega)]
      by_cases hc : dt_an hd pc st sz nb j 16 0 false = false
      · rw [if_pos hc, if_pos ⟨by omega, hc⟩, pk_us]
      · rw [if_neg hc, if_neg (fun q => hc q.2)]
    · have hm : (if dt_an hd pc st sz nb k 16 0 false = false then upd mr k 0 else mr) j = mr j := by
        split
        · exact pk_un hj
        · rfl
      rw [hm]
      by_cases hr : k + 1 ≤ j ∧ j < k + 1 + d
      · have hr2 : k ≤ j ∧ j < k + (d + 1) := by omega
        simp only [hr, hr2, true_and, and_self]
      · have hr2 : ¬ (k ≤ j ∧ j < k + (d + 1)) := by omega
        simp only [hr, hr2, false_and, if_false]
theorem dt_lf_eq (own : Int32) : ∀ d k c dp, (dt_lf own d k c dp).1 = c + nI (dt_cn (fun j => decide (dp j = own + 1)) d k) ∧ ∀ j, (dt_lf own d k c dp).2 j = if k ≤ j ∧ j < k + d then dp j - 1 else dp j := by
  intro d
  induction d with
  | zero =>
    intro k c dp
    refine ⟨?_, fun j => ?_⟩
    · show c = c + nI 0
      rw [nI_0, Int32.add_zero]
    · rw [if_neg (by omega)]
      rfl
  | succ d ih =>
    intro k c dp
    have e : dt_lf own (d + 1) k c dp = dt_lf own d (k + 1) (c + (if dp k = own + 1 then 1 else 0)) (upd dp k (dp k - 1)) := rfl
    rw [e]
    obtain ⟨i1, i2⟩ := ih (k + 1) (c + (if dp k = own + 1 then 1 else 0)) (upd dp k (dp k - 1))
    refine ⟨?_, fun j => ?_⟩
    · rw [i1]
      have e1 := dt_cn_congr (Q := fun j => decide (upd dp k (dp k - 1) j = own + 1)) (Q' := fun j => decide (dp j = own + 1)) d (k + 1) (fun j h1 h2 => by
        show decide (upd dp k (dp k - 1) j = own + 1) = decide (dp j = own + 1)
        rw [pk_un (by omega)])
      have e2 : dt_cn (fun j => decide (dp j = own + 1)) (d + 1) k = (if decide (dp k = own + 1) = true then 1 else 0) + dt_cn (fun j => decide (dp j = own + 1)) d (k + 1) := rfl
      rw [e1, e2, ← nI_add, Int32.add_assoc]
      congr 2
      by_cases h : dp k = own + 1
      · simp only [h, if_true, decide_true]; rfl
      · simp only [h, if_false, decide_false]; rfl
    · rw [i2]
      by_cases hj : j = k
      · subst hj
        rw [if_neg (by omega), if_pos (by omega), pk_us]
      · rw [pk_un hj]
        by_cases hr : k + 1 ≤ j ∧ j < k + 1 + d
        · rw [if_pos hr, if_pos (by omega)]
        · rw [if_neg hr, if_neg (by omega)]
theorem dt_hn_eq (hd : dt_F) (x y : Int32) : ∀ d k c par, (dt_hn hd x y d k c par).1 = c + nI (dt_cn (fun j => !decide (hd j = 0) && decide (par j = x)) d k) ∧ ∀ j, (dt_hn hd x y d k c par).2 j = if (k ≤ j ∧ j < k + d) ∧ ¬ hd j = 0 ∧ par j = x then y else par j := by
  intro d
  induction d with
  | zero =>
    intro k c par
    refine ⟨?_, fun j => ?_⟩
    · show c = c + nI 0
      rw [nI_0, Int32.add_zero]
    · rw [if_neg (by omega)]
      rfl
  | succ d ih =>
    intro k c par
    have e2 : dt_cn (fun j => !decide (hd j = 0) && decide (par j = x)) (d + 1) k = (if (!decide (hd k = 0) && decide (par k = x)) = true then 1 else 0) + dt_cn (fun j => !decide (hd j = 0) && decide (par j = x)) d (k + 1) := rfl
    have e : dt_hn hd x y (d + 1) k c par = if ¬ hd k = 0 ∧ par k = x then dt_hn hd x y d (k + 1) (c + 1) (upd par k y) else dt_hn hd x y d (k + 1) c par := rfl
    by_cases hc : ¬ hd k = 0 ∧ par k = x
    · rw [if_pos hc] at e
      obtain ⟨i1, i2⟩ := ih (k + 1) (c + 1) (upd par k y)
      rw [e]
      refine ⟨?_, fun j => ?_⟩
      · rw [i1, e2]
        have e1 := dt_cn_congr (Q := fun j => !decide (hd j = 0) && decide (upd par k y j = x)) (Q' := fun j => !decide (hd j = 0) && decide (par j = x)) d (k + 1) (fun j h1 h2 => by
          show (!decide (hd j = 0) && decide (upd par k y j = x)) = (!decide (hd j = 0) && decide (par j = x))
          rw [pk_un (by omega)])
        rw [e1, if_pos (by simp [hc.1, hc.2]), ← nI_add, Int32.add_assoc]
        rfl
      · rw [i2]
        by_cases hj : j = k
        · subst hj
          rw [if_neg (fun q => by have := q.1; omega), if_pos ⟨by omega, hc⟩, pk_us]
        · rw [pk_un hj]
          by_cases hr : k + 1 ≤ j ∧ j < k + 1 + d
          · have hr2 : k ≤ j ∧ j < k + (d + 1) := by omega
            simp only [hr, hr2, true_and, and_self]
          · have hr2 : ¬ (k ≤ j ∧ j < k + (d + 1)) := by omega
            simp only [hr, hr2, false_and, if_false]
    · rw [if_neg hc] at e
      obtain ⟨i1, i2⟩ := ih (k + 1) c par
      rw [e]
      refine ⟨?_, fun j => ?_⟩
      · rw [i1, e2, if_neg (by simp only [Bool.and_eq_true, Bool.not_eq_true', decide_eq_false_iff_not, decide_eq_true_eq]; exact hc), Nat.zero_add]
      · rw [i2]
        by_cases hj : j = k
        · subst hj
          rw [if_neg (fun q => by have := q.1; omega), if_neg (fun q => hc q.2)]
        · by_cases hr : k + 1 ≤ j ∧ j < k + 1 + d
          · have hr2 : k ≤ j ∧ j < k + (d + 1) := by omega
            simp only [hr, hr2, true_and, and_self]
          · have hr2 : ¬ (k ≤ j ∧ j < k + (d + 1)) := by omega
            simp only [hr, hr2, false_and, if_false]
theorem dt_gs_eq (hd par : dt_F) (x : Int32) : ∀ d k gg j, dt_gs hd par x d k gg j = if k ≤ j ∧ j < k + d then dt_b (!decide (hd j = 0) && dt_bl par x 16 (par j)) else gg j := by
  intro d
  induction d with
  | zero =>
    intro k gg j
    rw [if_neg (by omega)]
    rfl
  | succ d ih =>
    intro k gg j
    show dt_gs hd par x d (k + 1) (upd gg k (dt_b (!decide (hd k = 0) && dt_bl par x 16 (par k)))) j = _
    rw [ih]
    by_cases hj : j = k
    · subst hj
      rw [if_neg (by omega), if_pos (by omega), pk_us]
    · rw [pk_un hj]
      by_cases hr : k + 1 ≤ j ∧ j < k + 1 + d
      · rw [if_pos hr, if_pos (by omega)]
      · rw [if_neg hr, if_neg (by omega)]
theorem dt_gn_eq (gg : dt_F) : ∀ d k c hd, (dt_gn gg d k c hd).1 = c + nI (dt_cn (fun j => !decide (gg j = 0)) d k) ∧ ∀ j, (dt_gn gg d k c hd).2 j = if (k ≤ j ∧ j < k + d) ∧ ¬ gg j = 0 then 0 else hd j := by
  intro d
  induction d with
  | zero =>
    intro k c hd
    refine ⟨?_, fun j => ?_⟩
    · show c = c + nI 0
      rw [nI_0, Int32.add_zero]
    · rw [if_neg (by omega)]
      rfl
  | succ d ih =>
    intro k c hd
    have e2 : dt_cn (fun j => !decide (gg j = 0)) (d + 1) k = (if (!decide (gg k = 0)) = true then 1 else 0) + dt_cn (fun j => !decide (gg j = 0)) d (k + 1) := rfl
    have e : dt_gn gg (d + 1) k c hd = if gg k = 0 then dt_gn gg d (k + 1) c hd else dt_gn gg d (k + 1) (c + 1) (upd hd k 0) := rfl
    by_cases hc : gg k = 0
    · rw [if_pos hc] at e
      obtain ⟨i1, i2⟩ := ih (k + 1) c hd
      rw [e]
      refine ⟨?_, fun j => ?_⟩
      · rw [i1, e2, if_neg (by simp [hc]), Nat.zero_add]
      · rw [i2]
        by_cases hj : j = k
        · subst hj
          rw [if_neg (fun q => by have := q.1; omega), if_neg (fun q => q.2 hc)]
        · by_cases hr : k + 1 ≤ j ∧ j < k + 1 + d
          · have hr2 : k ≤ j ∧ j < k + (d + 1) := by omega
            simp only [hr, hr2, true_and, and_self]
          · have hr2 : ¬ (k ≤ j ∧ j < k + (d + 1)) := by omega
            simp only [hr, hr2, false_and, if_false]
    · rw [if_neg hc] at e
      obtain ⟨i1, i2⟩ := ih (k + 1) (c + 1) (upd hd k 0)
      rw [e]
      refine ⟨?_, fun j => ?_⟩
      · rw [i1, e2, if_pos (by simp [hc]), ← nI_add, Int32.add_assoc]
        rfl
      · rw [i2]
        by_cases hj : j = k
        · subst hj
          rw [if_neg (fun q => by have := q.1; omega), if_pos ⟨by omega, hc⟩, pk_us]
        · rw [pk_un hj]
          by_cases hr : k + 1 ≤ j ∧ j < k + 1 + d
          · have hr2 : k ≤ j ∧ j < k + (d + 1) := by omega
            simp only [hr, hr2, true_and, and_self]
          · have hr2 : ¬ (k ≤ j ∧ j < k + (d + 1)) := by omega
            simp only [hr, hr2, false_and, if_false]
theorem dt_dc_eq (hd par : dt_F) (x : Int32) : ∀ d k c, dt_dc hd par x d k c = c + nI (dt_cn (fun j => !decide (hd j = 0) && dt_bl par x 16 (par j)) d k) := by
  intro d
  induction d with
  | zero =>
    intro k c
    show c = c + nI 0
    rw [nI_0, Int32.add_zero]
  | succ d ih =>
    intro k c
    have e2 : dt_cn (fun j => !decide (hd j = 0) && dt_bl par x 16 (par j)) (d + 1) k = (if (!decide (hd k = 0) && dt_bl par x 16 (par k)) = true then 1 else 0) + dt_cn (fun j => !decide (hd j = 0) && dt_bl par x 16 (par j)) d (k + 1) := rfl
    have e : dt_dc hd par x (d + 1) k c = dt_dc hd par x d (k + 1) (if ¬ hd k = 0 ∧ dt_bl par x 16 (par k) = true then c + 1 else c) := rfl
    rw [e, ih, e2]
    by_cases hc : ¬ hd k = 0 ∧ dt_bl par x 16 (par k) = true
    · rw [if_pos hc, if_pos (by simp [hc.1, hc.2]), ← nI_add, Int32.add_assoc]
      rfl
    · rw [if_neg hc, if_neg (by simp only [Bool.and_eq_true, Bool.not_eq_true', decide_eq_false_iff_not]; exact hc), Nat.zero_add]
theorem dt_ky_eq (hd : dt_F) : ∀ d k c, dt_ky hd d k c = c + nI (dt_cn (fun j => !decide (hd j = 0)) d k) := by
  intro d
  induction d with
  | zero =>
    intro k c
    show c = c + nI 0
    rw [nI_0, Int32.add_zero]
  | succ d ih =>
    intro k c
    have e2 : dt_cn (fun j => !decide (hd j = 0)) (d + 1) k = (if (!decide (hd k = 0)) = true then 1 else 0) + dt_cn (fun j => !decide (hd j = 0)) d (k + 1) := rfl
    have e : dt_ky hd (d + 1) k c = dt_ky hd d (k + 1) (if hd k = 0 then c else c + 1) := rfl
    rw [e, ih, e2]
    by_cases hc : hd k = 0
    · rw [if_pos hc, if_neg (by simp [hc]), Nat.zero_add]
    · rw [if_neg hc, if_pos (by simp [hc]), ← nI_add, Int32.add_assoc]
      rfl
theorem dt_sc_ok (hd pc : dt_F) : ∀ d q, q ≤ dt_sc hd pc d q ∧ dt_sc hd pc d q ≤ q + d ∧ (∀ p, q ≤ p → p < dt_sc hd pc d q → dt_th hd pc (nI p) 16 0 = true) ∧ (dt_sc hd pc d q < q + d → ¬ dt_th hd pc (nI (dt_sc hd pc d q)) 16 0 = true) := by
  intro d
  induction d with
  | zero => intro q; exact ⟨Nat.le_refl q, Nat.le_refl q, fun p h1 h2 => by have : p < q := h2; omega, fun h => by have : q < q + 0 := h; omega⟩
  | succ d ih =>
    intro q
    have e : dt_sc hd pc (d + 1) q = if dt_th hd pc (nI q) 16 0 = true then dt_sc hd pc d (q + 1) else q := rfl
    by_cases h : dt_th hd pc (nI q) 16 0 = true
    · rw [if_pos h] at e
      rw [e]
      obtain ⟨a, b, c, d'⟩ := ih (q + 1)
      refine ⟨by omega, by omega, fun p h1 h2 => ?_, fun h1 => d' (by omega)⟩
      by_cases hp : p = q
      · rw [hp]; exact h
      · exact c p (by omega) h2
    · rw [if_neg h] at e
      rw [e]
      exact ⟨Nat.le_refl q, by omega, fun p h1 h2 => by omega, fun _ => h⟩
theorem dt_ng_eq : ∀ d k f j, dt_ng d k f j = if k ≤ j ∧ j < k + d then -1 else f j := by
  intro d
  induction d with
  | zero =>
    intro k f j
    rw [if_neg (by omega)]
    rfl
  | succ d ih =>
    intro k f j
    show dt_ng d (k + 1) (upd f k (-1)) j = _
    rw [ih]
    by_cases hj : j = k
    · subst hj
      rw [if_neg (by omega), if_pos (by omega), pk_us]
    · rw [pk_un hj]
      by_cases hr : k + 1 ≤ j ∧ j < k + 1 + d
      · rw [if_pos hr, if_pos (by omega)]
      · rw [if_neg hr, if_neg (by omega)]
end
section
/-! the two states side by side -/
def dt_KT (kt pc : dt_F) : Prop := ∀ p, p < 16 → kt p = nI (dt_cn (fun s => decide (pc s = nI p)) 16 0)
def dt_Hs (hd pc pc1 rt rt1 : dt_F) : Prop := ∀ s, s < 16 → (hd s = 1 ∧ pc1 s = pc s ∧ rt1 s = rt s ∧ ∃ p, p < 16 ∧ pc s = nI p) ∨ (hd s = 0 ∧ pc s = -1)
def dt_Mk (kt mr mr1 sz : dt_F) : Prop := ∀ p, p < 16 → 0 < kt p → mr1 p = mr p ∧ 0 ≤ mr p ∧ mr p ≤ sz p
def dt_RwS (n : Nat) (sl dp hd par : dt_F) (S P : Nat → Nat) : Prop :=
  (∀ k, k < n → sl k = nI (S k) ∧ S k < 16 ∧ hd (S k) = 1) ∧ (∀ j k, j < n → k < n → S j = S k → j = k) ∧ (∀ s, s < 16 → hd s = 1 → ∃ k, k < n ∧ S k = s) ∧ (∀ k, k < n → dp k = nI (P k)) ∧ dt_Dp n P ∧ (∀ k, k < n → (dt_No P k ∧ par (S k) = -1) ∨ ∃ j, dt_Up P k j ∧ par (S k) = nI (S j))
def dt_Rw (n : Nat) (sl dp hd par : dt_F) : Prop := n ≤ 16 ∧ ∃ S P : Nat → Nat, dt_RwS n sl dp hd par S P
def dt_Wf1 (pc par : dt_F) : Prop := ∀ s, s < 16 → (∃ p, p < 16 ∧ pc s = nI p) ∧ (par s = -1 ∨ ∃ j, j < 16 ∧ par s = nI j)
def dt_Rel (σ : dt_S0) (τ : dt_S1) : Prop := match σ, τ with
  | (made, n, st, sz, mr, kt, nb, sl, dp, pc, rt), (hd, pc1, rt1, par, st1, sz1, mr1, nb1, made1, _) =>
    made = made1 ∧ st = st1 ∧ sz = sz1 ∧ nb = nb1 ∧ dt_Hs hd pc pc1 rt rt1 ∧ dt_KT kt pc ∧ dt_Mk kt mr mr1 sz ∧ dt_Rw n sl dp hd par ∧ dt_Wf1 pc1 par
theorem dt_Dp_le {n : Nat} {P : Nat → Nat} (h : dt_Dp n P) : ∀ k, k < n → P k ≤ k := by
  intro k
  induction k with
  | zero => intro hk; rw [h.1 hk]; exact Nat.le_refl 0
  | succ k ih =>
    intro hk
    have := h.2 k hk
    have := ih (by omega)
    omega
theorem dt_hd_ms {hd pc pc1 rt rt1 : dt_F} (h : dt_Hs hd pc pc1 rt rt1) (x : Int32) : dt_hd pc x = true ↔ dt_ms hd x = false := by
  rw [dt_hd_iff, dt_ms_iff]
  constructor
  · rintro ⟨s, hs, e, hp⟩
    refine ⟨s, hs, e, ?_⟩
    rcases h s hs with ⟨h1, -⟩ | ⟨-, h2⟩
    · rw [h1]; decide
    · rw [h2] at hp; exact absurd dt_m1 hp
  · rintro ⟨s, hs, e, hp⟩
    refine ⟨s, hs, e, ?_⟩
    rcases h s hs with ⟨-, -, -, p, hp2, h2⟩ | ⟨h1, -⟩
    · rw [h2]; exact nI_pos (by omega)
    · exact absurd h1 hp
theorem dt_fr_tk {hd pc pc1 rt rt1 : dt_F} (h : dt_Hs hd pc pc1 rt rt1) (x : Int32) : dt_fr pc x = true ↔ dt_tk hd x = false := by
  rw [dt_fr_iff, dt_tk_iff]
  constructor
  · rintro ⟨s, hs, e, hp⟩
    refine ⟨s, hs, e, ?_⟩
    rcases h s hs with ⟨-, -, -, p, hp2, h2⟩ | ⟨h1, -⟩
    · rw [h2] at hp; exact absurd hp (nI_pos (by omega))
    · exact h1
  · rintro ⟨s, hs, e, hp⟩
    refine ⟨s, hs, e, ?_⟩
    rcases h s hs with ⟨h1, -⟩ | ⟨-, h2⟩
    · rw [h1] at hp; exact absurd hp (by decide)
    · rw [h2]; exact dt_m1
/-- what a held slot is -/
theorem dt_held {hd pc pc1 rt rt1 : dt_F} (h : dt_Hs hd pc pc1 rt rt1) {x : Int32} (hx : dt_hd pc x = true) : ∃ s p, s < 16 ∧ x = nI s ∧ x.toNatClampNeg = s ∧ hd s = 1 ∧ pc1 s = nI p ∧ rt1 s = rt s ∧ p < 16 ∧ pc s = nI p ∧ (pc s).toNatClampNeg = p ∧ (pc1 s).toNatClampNeg = p := by
  obtain ⟨s, hs, e, hp⟩ := dt_hd_iff.mp hx
  rcases h s hs with ⟨h1, h2, h3, p, hp2, h4⟩ | ⟨-, h2⟩
  · refine ⟨s, p, hs, e, by rw [e, nI_clamp (by omega)], h1, h2.trans h4, h3, hp2, h4, by rw [h4, nI_clamp (by omega)], by rw [h2, h4, nI_clamp (by omega)]⟩
  · rw [h2] at hp; exact absurd dt_m1 hp
theorem dt_free {hd pc pc1 rt rt1 : dt_F} (h : dt_Hs hd pc pc1 rt rt1) {y : Int32} (hy : dt_fr pc y = true) : ∃ t, t < 16 ∧ y = nI t ∧ y.toNatClampNeg = t ∧ hd t = 0 ∧ pc t = -1 := by
  obtain ⟨s, hs, e, hp⟩ := dt_fr_iff.mp hy
  rcases h s hs with ⟨-, -, -, p, hp2, h2⟩ | ⟨h1, h2⟩
  · rw [h2] at hp; exact absurd hp (nI_pos (by omega))
  · exact ⟨s, hs, e, by rw [e, nI_clamp (by omega)], h1, h2⟩
/-! keys to a piece -/
theorem dt_KT_pos {kt pc : dt_F} (h : dt_KT kt pc) {p : Nat} (hp : p < 16) : 0 < kt p ↔ ∃ s, s < 16 ∧ pc s = nI p := by
  have hle := dt_cn_le (Q := fun s => decide (pc s = nI p)) 16 0
  rw [h p hp, show (0 : Int32) = nI 0 from rfl, nI_ltI (by decide) (by omega)]
  constructor
  · intro h1
    refine Classical.byContradiction fun h2 => ?_
    have : dt_cn (fun s => decide (pc s = nI p)) 16 0 = 0 := (dt_cn_zero 16 0).mpr (fun j _ hj => by
      simp only [decide_eq_false_iff_not]
      exact fun q => h2 ⟨j, by omega, q⟩)
    omega
  · rintro ⟨s, hs, e⟩
    exact dt_cn_pos 16 0 (Nat.zero_le s) (by omega) (by simp [e])
theorem dt_KT_zero {kt pc : dt_F} (h : dt_KT kt pc) {p : Nat} (hp : p < 16) : kt p = 0 ↔ ¬ 0 < kt p := by
  have hle := dt_cn_le (Q := fun s => decide (pc s = nI p)) 16 0
  rw [h p hp, show (0 : Int32) = nI 0 from rfl, nI_ltI (by decide) (by omega), nI_eq (by omega) (by decide)]
  omega
theorem dt_th_kt {hd pc pc1 rt rt1 kt : dt_F} (h : dt_Hs hd pc pc1 rt rt1) (hk : dt_KT kt pc) {p : Nat} (hp : p < 16) : dt_th hd pc1 (nI p) 16 0 = true ↔ 0 < kt p := by
  rw [dt_th_iff, dt_KT_pos hk hp]
  constructor
  · rintro ⟨s, -, hs, h1, h2⟩
    rcases h s (by omega) with ⟨-, h3, -⟩ | ⟨h3, -⟩
    · exact ⟨s, by omega, h3.symm.trans h2⟩
    · exact absurd h3 h1
  · rintro ⟨s, hs, e⟩
    rcases h s hs with ⟨h1, h3, -⟩ | ⟨-, h3⟩
    · exact ⟨s, Nat.zero_le s, by omega, by rw [h1]; decide, h3.trans e⟩
    · rw [h3] at e; exact absurd e.symm (dt_m1_ne (by omega))
theorem dt_KT_put {kt pc : dt_F} (h : dt_KT kt pc) {t q : Nat} (ht : t < 16) (hq : q < 16) (hf : pc t = -1) : dt_KT (upd kt q (kt q + 1)) (upd pc t (nI q)) := by
  intro p hp
  have hu := dt_cn_upd (Q := fun s => decide (pc s = nI p)) (Q' := fun s => decide (upd pc t (nI q) s = nI p)) t (fun j hj => by
    show decide (upd pc t (nI q) j = nI p) = decide (pc j = nI p)
    rw [pk_un hj]) 16 0 (Nat.zero_le t) (by omega)
  have h0 : ¬ (-1 : Int32) = nI p := fun e => dt_m1_ne (by omega) e.symm
  simp only [pk_us, hf, h0, decide_false, Bool.false_eq_true, if_false, decide_eq_true_eq, Nat.add_zero] at hu
  rw [hu]
  by_cases hpq : p = q
  · subst hpq
    rw [pk_us, h p hp, if_pos rfl, ← nI_1]
  · rw [pk_un hpq, h p hp, if_neg (fun e => hpq ((nI_eq (by omega) (by omega)).mp e).symm), Nat.add_zero]
theorem dt_KT_forget {kt pc : dt_F} (h : dt_KT kt pc) {s q : Nat} (hs : s < 16) (hq : q < 16) (hf : pc s = nI q) : dt_KT (upd kt q (kt q - 1)) (upd pc s (-1)) := by
  intro p hp
  have hu := dt_cn_upd (Q := fun s => decide (pc s = nI p)) (Q' := fun j => decide (upd pc s (-1) j = nI p)) s (fun j hj => by
    show decide (upd pc s (-1) j = nI p) = decide (pc j = nI p)
    rw [pk_un hj]) 16 0 (Nat.zero_le s) (by omega)
  have h0 : ¬ (-1 : Int32) = nI p := fun e => dt_m1_ne (by omega) e.symm
  simp only [pk_us, hf, h0, decide_false, Bool.false_eq_true, if_false, decide_eq_true_eq, Nat.add_zero] at hu
  by_cases hpq : p = q
  · subst hpq
    rw [if_pos rfl] at hu
    rw [pk_us, h p hp, ← hu, ← nI_1, Int32.add_sub_cancel]
  · rw [if_neg (fun e => hpq ((nI_eq (by omega) (by omega)).mp e).symm), Nat.add_zero] at hu
    rw [pk_un hpq, h p hp, hu]
theorem dt_KT_move {kt pc : dt_F} (h : dt_KT kt pc) {s t : Nat} (hs : s < 16) (ht : t < 16) (hst : s ≠ t) (hf : pc t = -1) : dt_KT kt (upd (upd pc t (pc s)) s (-1)) := by
  intro p hp
  have hu := dt_cn_upd (Q := fun s => decide (pc s = nI p)) (Q' := fun j => decide (upd pc t (pc s) j = nI p)) t (fun j hj => by
    show decide (upd pc t (pc s) j = nI p) = decide (pc j = nI p)
    rw [pk_un hj]) 16 0 (Nat.zero_le t) (by omega)
  have hv := dt_cn_upd (Q := fun j => decide (upd pc t (pc s) j = nI p)) (Q' := fun j => decide (upd (upd pc t (pc s)) s (-1) j = nI p)) s (fun j hj => by
    show decide (upd (upd pc t (pc s)) s (-1) j = nI p) = decide (upd pc t (pc s) j = nI p)
    rw [pk_un hj]) 16 0 (Nat.zero_le s) (by omega)
  have h0 : ¬ (-1 : Int32) = nI p := fun e => dt_m1_ne (by omega) e.symm
  simp only [pk_us, hf, h0, decide_false, Bool.false_eq_true, if_false, Nat.add_zero] at hu
  simp only [pk_us, h0, decide_false, Bool.false_eq_true, if_false, Nat.add_zero, pk_un hst] at hv
  rw [h p hp]
  generalize dt_cn (fun j => decide (upd pc t (pc s) j = nI p)) 16 0 = U at hu hv
  generalize dt_cn (fun j => decide (upd (upd pc t (pc s)) s (-1) j = nI p)) 16 0 = V at hv ⊢
  generalize dt_cn (fun s => decide (pc s = nI p)) 16 0 = X at hu ⊢
  generalize (if decide (pc s = nI p) = true then 1 else 0) = Y at hu hv
  have hXV : X = V := by omega
  rw [hXV]
/-! places -/
theorem dt_Rw_plc {n : Nat} {sl dp hd par : dt_F} {S P : Nat → Nat} (h : dt_RwS n sl dp hd par S P) {k : Nat} (hk : k < n) : dt_plc sl (nI (S k)) n = k := by
  refine dt_plc_eq n hk (h.1 k hk).1 (fun j hj e => ?_)
  rw [(h.1 j hj).1] at e
  have a := (h.1 j hj).2.1
  have b := (h.1 k hk).2.1
  exact h.2.1 j k hj hk ((nI_eq (by omega) (by omega)).mp e)
theorem dt_Rw_slot {n : Nat} {sl dp hd par : dt_F} {S P : Nat → Nat} (h : dt_RwS n sl dp hd par S P) {s : Nat} (hs : s < 16) (hh : hd s = 1) : ∃ k, k < n ∧ S k = s ∧ dt_plc sl (nI s) n = k := by
  obtain ⟨k, hk, e⟩ := h.2.2.1 s hs hh
  exact ⟨k, hk, e, by rw [← e]; exact dt_Rw_plc h hk⟩
theorem dt_Rw_En {n : Nat} {sl dp hd par : dt_F} {S P : Nat → Nat} (hn : n ≤ 16) (h : dt_RwS n sl dp hd par S P) {i : Nat} (hi : i < n) : dt_En n P i (dt_end dp n i) :=
  dt_end_En hi (fun k hk => ⟨h.2.2.2.1 k hk, by have := dt_Dp_le h.2.2.2.2.1 k hk; omega⟩)
theorem dt_Rw_cn {n : Nat} {sl dp hd par : dt_F} {S P : Nat → Nat} (h : dt_RwS n sl dp hd par S P) (Q : Nat → Bool) : dt_cn (fun s => decide (hd s = 1) && Q s) 16 0 = dt_cn (fun k => Q (S k)) n 0 := by
  refine dt_bij n S (fun s => decide (hd s = 1)) (fun k hk => (h.1 k hk).2.1) h.2.1 (fun s hs => ?_) Q
  simp only [decide_eq_true_eq]
  constructor
  · exact fun e => h.2.2.1 s hs e
  · rintro ⟨k, hk, e⟩
    rw [← e]
    exact (h.1 k hk).2.2
theorem dt_Rw_n {n : Nat} {sl dp hd par : dt_F} {S P : Nat → Nat} (h : dt_RwS n sl dp hd par S P) {t : Nat} (ht : t < 16) (hf : hd t = 0) : n < 16 := by
  have h1 := dt_Rw_cn h (fun _ => true)
  rw [dt_cn_true] at h1
  rw [← h1]
  exact dt_cn_lt 16 0 (Nat.zero_le t) (by omega) (by simp [hf])
/-- following parents -/
theorem dt_bl_ok {n : Nat} {sl dp hd par : dt_F} {S P : Nat → Nat} (h : dt_RwS n sl dp hd par S P) {i : Nat} (hi : i < n) : ∀ k, k < n → ∀ d, k ≤ d → (dt_bl par (nI (S i)) d (par (S k)) = true ↔ dt_Dn P i k) := by
  intro k
  induction k using Nat.strongRecOn with
  | ind k ih =>
    intro hk d hd
    rcases h.2.2.2.2.2 k hk with ⟨hN, e⟩ | ⟨j, hU, e⟩
    · rw [e]
      constructor
      · intro q
        cases d with
        | zero => cases q
        | succ d =>
          have : dt_bl par (nI (S i)) (d + 1) (-1) = false := if_pos dt_m1
          rw [this] at q
          cases q
      · intro q
        exact absurd q (dt_Dn_No hN)
    · have hj : j < k := hU.1
      have hS := (h.1 j (by omega)).2.1
      have hSi := (h.1 i hi).2.1
      obtain ⟨d, rfl⟩ : ∃ d', d = d' + 1 := ⟨d - 1, by omega⟩
      have e1 : dt_bl par (nI (S i)) (d + 1) (nI (S j)) = if nI (S j) = nI (S i) then true else dt_bl par (nI (S i)) d (par (nI (S j)).toNatClampNeg) := if_neg (nI_pos (by omega))
      rw [e, e1]
      by_cases hij : i = j
      · subst hij
        rw [if_pos rfl]
        exact ⟨fun _ => dt_Dn_Up hU, fun _ => rfl⟩
      · have hne : ¬ nI (S j) = nI (S i) := fun q => hij (h.2.1 i j hi (by omega) ((nI_eq (by omega) (by omega)).mp q).symm)
        rw [if_neg hne, nI_clamp (by omega), ih j hj (by omega) d (by omega)]
        exact (dt_Dn_step hU hij).symm
theorem dt_par_iff {n : Nat} {sl dp hd par : dt_F} {S P : Nat → Nat} (h : dt_RwS n sl dp hd par S P) {i k : Nat} (hi : i < n) (hk : k < n) : par (S k) = nI (S i) ↔ dt_Up P k i := by
  have hSi := (h.1 i hi).2.1
  constructor
  · intro e
    rcases h.2.2.2.2.2 k hk with ⟨-, e2⟩ | ⟨j, hU, e2⟩
    · rw [e2] at e
      exact absurd e.symm (dt_m1_ne (by omega))
    · rw [e2] at e
      have hS := (h.1 j (by have := hU.1; omega)).2.1
      have := h.2.1 j i (by have := hU.1; omega) hi ((nI_eq (by omega) (by omega)).mp e)
      rw [← this]
      exact hU
  · intro hU
    rcases h.2.2.2.2.2 k hk with ⟨hN, -⟩ | ⟨j, hU2, e2⟩
    · exact (dt_No_Up hN hU).elim
    · rw [e2, dt_Up_one hU2 hU]
/-! a new key -/
theorem dt_Rw_put {n : Nat} {sl dp hd par : dt_F} {S P : Nat → Nat} (h : dt_RwS n sl dp hd par S P) {i t : Nat} (hi : i < n) (ht : t < 16) (hf : hd t = 0) :
    dt_RwS (n + 1) (upd (dt_shu (i + 1) (n - (i + 1)) sl) (i + 1) (nI t)) (upd (dt_shu (i + 1) (n - (i + 1)) dp) (i + 1) (dt_shu (i + 1) (n - (i + 1)) dp i + 1)) (upd hd t 1) (upd par t (nI (S i))) (dt_in S i t) (dt_in P i (P i + 1)) := by
  obtain ⟨h1, h2, h3, h4, h5, h6⟩ := h
  have hne : ∀ k, k < n → S k ≠ t := fun k hk e => by
    have := (h1 k hk).2.2
    rw [e, hf] at this
    exact absurd this (by decide)
  have old : ∀ k, k < n → upd hd t 1 (S k) = 1 := fun k hk => by rw [pk_un (hne k hk)]; exact (h1 k hk).2.2
  have oldp : ∀ k, k < n → upd par t (nI (S i)) (S k) = par (S k) := fun k hk => pk_un (hne k hk)
  -- the places of the new row
  have cases3 : ∀ k, k < n + 1 → k ≤ i ∨ k = i + 1 ∨ ∃ k', k = k' + 1 ∧ i < k' ∧ k' < n := fun k hk => by
    rcases Nat.lt_trichotomy k (i + 1) with q | q | q
    · exact Or.inl (by omega)
    · exact Or.inr (Or.inl q)
    · exact Or.inr (Or.inr ⟨k - 1, by omega, by omega, by omega⟩)
  refine ⟨fun k hk => ?_, fun j k hj hk e => ?_, fun s hs hh => ?_, fun k hk => ?_, dt_in_Dp h5 hi, fun k hk => ?_⟩
  · rcases cases3 k hk with q | q | ⟨k', rfl, q1, q2⟩
    · rw [dt_in_lo q, pk_un (by omega), dt_shu_eq, if_neg (by omega)]
      exact ⟨(h1 k (by omega)).1, (h1 k (by omega)).2.1, old k (by omega)⟩
    · subst q
      rw [dt_in_at, pk_us, pk_us]
      exact ⟨rfl, ht, rfl⟩
    · rw [dt_in_hi q1, pk_un (by omega), dt_shu_eq, if_pos (by omega), Nat.add_sub_cancel]
      exact ⟨(h1 k' q2).1, (h1 k' q2).2.1, old k' q2⟩
  · rcases cases3 j hj with q | q | ⟨j', rfl, q1, q2⟩ <;> rcases cases3 k hk with r | r | ⟨k', rfl, r1, r2⟩
    · rw [dt_in_lo q, dt_in_lo r] at e
      exact h2 j k (by omega) (by omega) e
    · subst r
      rw [dt_in_lo q, dt_in_at] at e
      exact absurd e (hne j (by omega))
    · rw [dt_in_lo q, dt_in_hi r1] at e
      have := h2 j k' (by omega) r2 e
      omega
    · subst q
      rw [dt_in_lo r, dt_in_at] at e
      exact absurd e.symm (hne k (by omega))
    · omega
    · subst q
      rw [dt_in_hi r1, dt_in_at] at e
      exact absurd e.symm (hne k' r2)
    · rw [dt_in_hi q1, dt_in_lo r] at e
      have := h2 j' k q2 (by omega) e
      omega
    · subst r
      rw [dt_in_hi q1, dt_in_at] at e
      exact absurd e (hne j' q2)
    · rw [dt_in_hi q1, dt_in_hi r1] at e
      have := h2 j' k' q2 r2 e
      omega
  · by_cases hst : s = t
    · exact ⟨i + 1, by omega, by rw [dt_in_at]; exact hst.symm⟩
    · rw [pk_un hst] at hh
      obtain ⟨k, hk, e⟩ := h3 s hs hh
      by_cases hki : k ≤ i
      · exact ⟨k, by omega, by rw [dt_in_lo hki]; exact e⟩
      · exact ⟨k + 1, by omega, by rw [dt_in_hi (by omega)]; exact e⟩
  · rcases cases3 k hk with q | q | ⟨k', rfl, q1, q2⟩
    · rw [dt_in_lo q, pk_un (by omega), dt_shu_eq, if_neg (by omega)]
      exact h4 k (by omega)
    · subst q
      rw [dt_in_at, pk_us, dt_shu_eq, if_neg (by omega), h4 i hi, nI_1]
    · rw [dt_in_hi q1, pk_un (by omega), dt_shu_eq, if_pos (by omega), Nat.add_sub_cancel]
      exact h4 k' q2
  · rcases cases3 k hk with q | q | ⟨k', rfl, q1, q2⟩
    · rw [dt_in_lo q, oldp k (by omega)]
      rcases h6 k (by omega) with ⟨hN, e⟩ | ⟨j, hU, e⟩
      · exact Or.inl ⟨dt_in_No1 q hN, e⟩
      · refine Or.inr ⟨j, dt_in_Up1 q hU, ?_⟩
        rw [dt_in_lo (by have := hU.1; omega)]
        exact e
    · subst q
      rw [dt_in_at, pk_us]
      exact Or.inr ⟨i, dt_in_Up2, by rw [dt_in_lo (Nat.le_refl i)]⟩
    · rw [dt_in_hi q1, oldp k' q2]
      rcases h6 k' q2 with ⟨hN, e⟩ | ⟨j, hU, e⟩
      · exact Or.inl ⟨dt_in_No3 q1 hN, e⟩
      · refine Or.inr ⟨_, dt_in_Up3 h5 q2 q1 hU, ?_⟩
        by_cases hji : j ≤ i
        · rw [if_pos hji, dt_in_lo hji]
          exact e
        · rw [if_neg hji, dt_in_hi (by omega)]
          exact e
end
section
theorem dt_Rel_mk {made made1 : Int32} {n : Nat} {st sz mr kt nb sl dp pc rt hd pc1 rt1 par st1 sz1 mr1 nb1 gg : dt_F} (h1 : made = made1) (h2 : st = st1) (h3 : sz = sz1) (h4 : nb = nb1) (h5 : dt_Hs hd pc pc1 rt rt1) (h6 : dt_KT kt pc) (h7 : dt_Mk kt mr mr1 sz) (h8 : dt_Rw n sl dp hd par) (h9 : dt_Wf1 pc1 par) :
    dt_Rel (made, n, st, sz, mr, kt, nb, sl, dp, pc, rt) (hd, pc1, rt1, par, st1, sz1, mr1, nb1, made1, gg) := ⟨h1, h2, h3, h4, h5, h6, h7, h8, h9⟩
theorem dt_Rel_el {made made1 : Int32} {n : Nat} {st sz mr kt nb sl dp pc rt hd pc1 rt1 par st1 sz1 mr1 nb1 gg : dt_F} (h : dt_Rel (made, n, st, sz, mr, kt, nb, sl, dp, pc, rt) (hd, pc1, rt1, par, st1, sz1, mr1, nb1, made1, gg)) :
    made = made1 ∧ st = st1 ∧ sz = sz1 ∧ nb = nb1 ∧ dt_Hs hd pc pc1 rt rt1 ∧ dt_KT kt pc ∧ dt_Mk kt mr mr1 sz ∧ dt_Rw n sl dp hd par ∧ dt_Wf1 pc1 par := h
theorem dt_cn_add (Q : Nat → Bool) (b : Nat) : ∀ a k, dt_cn Q (a + b) k = dt_cn Q a k + dt_cn Q b (k + a) := by
  intro a
  induction a with
  | zero => intro k; rw [Nat.zero_add]; show dt_cn Q b k = 0 + dt_cn Q b k; omega
  | succ a ih =>
    intro k
    rw [show a + 1 + b = (a + b) + 1 by omega]
    have e1 : dt_cn Q (a + b + 1) k = (if Q k = true then 1 else 0) + dt_cn Q (a + b) (k + 1) := rfl
    have e2 : dt_cn Q (a + 1) k = (if Q k = true then 1 else 0) + dt_cn Q a (k + 1) := rfl
    rw [e1, e2, ih (k + 1), show k + 1 + a = k + (a + 1) by omega]
    omega
theorem dt_cn_win {Q Q' : Nat → Bool} {n a g : Nat} (h : a + g ≤ n) (hin : ∀ k, a ≤ k → k < a + g → Q' k = Q k) (hout : ∀ k, k < n → (k < a ∨ a + g ≤ k) → Q' k = false) : dt_cn Q' n 0 = dt_cn Q g a := by
  obtain ⟨r, rfl⟩ : ∃ r, n = a + (g + r) := ⟨n - (a + g), by omega⟩
  rw [dt_cn_add Q' (g + r) a 0, dt_cn_add Q' r g (0 + a)]
  have e1 : dt_cn Q' a 0 = 0 := (dt_cn_zero a 0).mpr (fun j _ hj => hout j (by omega) (by omega))
  have e2 : dt_cn Q' r (0 + a + g) = 0 := (dt_cn_zero r _).mpr (fun j h1 h2 => hout j (by omega) (by omega))
  have e3 : dt_cn Q' g (0 + a) = dt_cn Q g a := by
    rw [Nat.zero_add]
    exact dt_cn_congr g a hin
  omega
theorem dt_mark_add {m z S : Int32} (h0 : 0 ≤ m) (h1 : m ≤ S) (h2 : 1 ≤ z) (h3 : z ≤ S - m) : 0 ≤ m + z ∧ m + z ≤ S := by
  have e := Int32.toInt_sub_of_le S m h0 h1
  have hS := S.toInt_lt
  rw [Int32.le_iff_toInt_le] at h0 h1 h2 h3
  rw [e] at h3
  have z0 : (0 : Int32).toInt = 0 := by decide
  have z1 : (1 : Int32).toInt = 1 := by decide
  rw [z0] at h0
  rw [z1] at h2
  have ea : (m + z).toInt = m.toInt + z.toInt := by
    rw [Int32.toInt_add]
    exact Int.bmod_eq_of_le (by omega) (by omega)
  rw [Int32.le_iff_toInt_le, Int32.le_iff_toInt_le, ea, z0]
  omega
/-- a piece with no key is there, if a slot is free -/
def dt_lt16 (pc : dt_F) : Nat → Nat → Bool
  | 0, _ => false
  | m + 1, s => decide (pc s = nI m) || dt_lt16 pc m s
theorem dt_lt16_iff {pc : dt_F} {s : Nat} : ∀ m, dt_lt16 pc m s = true ↔ ∃ p, p < m ∧ pc s = nI p := by
  intro m
  induction m with
  | zero => exact ⟨fun h => (by cases h), fun ⟨p, h, _⟩ => by omega⟩
  | succ m ih =>
    have e : dt_lt16 pc (m + 1) s = (decide (pc s = nI m) || dt_lt16 pc m s) := rfl
    rw [e, Bool.or_eq_true, ih, decide_eq_true_eq]
    constructor
    · rintro (h | ⟨p, h1, h2⟩)
      · exact ⟨m, by omega, h⟩
      · exact ⟨p, by omega, h2⟩
    · rintro ⟨p, h1, h2⟩
      by_cases hp : p = m
      · subst hp; exact Or.inl h2
      · exact Or.inr ⟨p, by omega, h2⟩
theorem dt_pigeon {pc : dt_F} : ∀ m, m ≤ 16 → (∀ p, p < m → ∃ s, s < 16 ∧ pc s = nI p) → m ≤ dt_cn (fun s => dt_lt16 pc m s) 16 0 := by
  intro m
  induction m with
  | zero => intro _ _; exact Nat.zero_le _
  | succ m ih =>
    intro hm h
    have i1 := ih (by omega) (fun p hp => h p (by omega))
    have e : dt_cn (fun s => dt_lt16 pc (m + 1) s) 16 0 = dt_cn (fun s => decide (pc s = nI m)) 16 0 + dt_cn (fun s => dt_lt16 pc m s) 16 0 :=
      dt_cn_or (A := fun s => decide (pc s = nI m)) (B := fun s => dt_lt16 pc m s) (fun j hj => by
        obtain ⟨p, hp, e2⟩ := (dt_lt16_iff m).mp hj.2
        have e1 : pc j = nI m := of_decide_eq_true hj.1
        have := (nI_eq (by omega) (by omega)).mp (e1.symm.trans e2)
        omega) 16 0
    obtain ⟨s, hs, e1⟩ := h m (by omega)
    have h2 : 0 < dt_cn (fun s => decide (pc s = nI m)) 16 0 := dt_cn_pos 16 0 (Nat.zero_le s) (by omega) (by simp [e1])
    omega
theorem dt_some_free {kt pc : dt_F} (hK : dt_KT kt pc) {t : Nat} (ht : t < 16) (hf : pc t = -1) : ∃ p, p < 16 ∧ kt p = 0 := by
  refine Classical.byContradiction fun hno => ?_
  have h1 := dt_pigeon (pc := pc) 16 (Nat.le_refl 16) (fun p hp => (dt_KT_pos hK hp).mp (Classical.byContradiction fun q => hno ⟨p, hp, (dt_KT_zero hK hp).mpr q⟩))
  have h2 := dt_cn_lt (Q := fun s => dt_lt16 pc 16 s) (s := t) 16 0 (Nat.zero_le t) (by omega) (by
    cases hb : dt_lt16 pc 16 t with
    | false => rfl
    | true =>
      obtain ⟨p, hp, e⟩ := (dt_lt16_iff 16).mp hb
      rw [hf] at e
      exact absurd e.symm (dt_m1_ne (by omega)))
  omega
theorem dt_piece_eq {hd pc pc1 rt rt1 kt : dt_F} (hH : dt_Hs hd pc pc1 rt rt1) (hK : dt_KT kt pc) {t : Nat} (ht : t < 16) (hf : pc t = -1) : dt_sc hd pc1 15 0 = dt_fpc kt 16 0 ∧ dt_fpc kt 16 0 < 16 ∧ kt (dt_fpc kt 16 0) = 0 := by
  obtain ⟨a, b, c⟩ := dt_fpc_some kt 16 0 (dt_some_free hK ht hf)
  obtain ⟨d, e, f, g⟩ := dt_sc_ok hd pc1 15 0
  refine ⟨?_, a, b⟩
  rcases Nat.lt_trichotomy (dt_sc hd pc1 15 0) (dt_fpc kt 16 0) with q | q | q
  · have h1 := g (by omega)
    rw [dt_th_kt hH hK (by omega), ← dt_KT_zero hK (by omega)] at h1
    exact absurd h1 (c _ q)
  · exact q
  · have h1 := f (dt_fpc kt 16 0) (Nat.zero_le _) q
    rw [dt_th_kt hH hK a] at h1
    exact absurd h1 ((dt_KT_zero hK a).mp b)
theorem dt_Mk_split {kt mr mr1 sz : dt_F} {p q : Nat} {z : Int32} (hM : dt_Mk kt mr mr1 sz) (hp : p < 16) (h0 : 0 < kt p) (hqk : kt q = 0) (hz : 1 ≤ z) (hz2 : z ≤ sz p - mr p) :
    dt_Mk (upd (upd kt q 0) q (upd kt q 0 q + 1)) (upd (upd mr q 0) p (upd mr q 0 p + z)) (upd (upd mr1 q 0) p (upd mr1 q 0 p + z)) (upd sz q z) := by
  have hpq : p ≠ q := by
    intro e
    rw [e, hqk] at h0
    exact absurd h0 (by decide)
  obtain ⟨m1, m2, m3⟩ := hM p hp h0
  intro r hr hk
  by_cases hrp : r = p
  · subst hrp
    rw [pk_us, pk_us, pk_un hpq, pk_un hpq, pk_un hpq, m1]
    obtain ⟨a, b⟩ := dt_mark_add m2 m3 hz hz2
    exact ⟨rfl, a, b⟩
  · rw [pk_un hrp, pk_un hrp]
    by_cases hrq : r = q
    · subst hrq
      rw [pk_us, pk_us, pk_us]
      refine ⟨rfl, by decide, ?_⟩
      rw [Int32.le_iff_toInt_le] at hz ⊢
      have z0 : (0 : Int32).toInt = 0 := by decide
      have z1 : (1 : Int32).toInt = 1 := by decide
      rw [z0]
      rw [z1] at hz
      omega
    · rw [pk_un hrq, pk_un hrq, pk_un hrq]
      rw [pk_un hrq, pk_un hrq] at hk
      exact hM r hr hk
theorem dt_settle {hd pc pc1 rt rt1 kt mr mr1 st sz nb : dt_F} (hH : dt_Hs hd pc pc1 rt rt1) (hK : dt_KT kt pc) (hM : dt_Mk kt mr mr1 sz) :
    dt_Mk kt (dt_rs st sz kt nb 16 0 mr) (dt_se hd pc1 st sz nb 16 0 mr1) sz := by
  intro p hp h0
  obtain ⟨m1, m2, m3⟩ := hM p hp h0
  have hb : dt_an hd pc1 st sz nb p 16 0 false = dt_ho st sz kt nb p 16 0 := by
    rw [Bool.eq_iff_iff, dt_an_iff, dt_ho_iff]
    constructor
    · rintro (h | ⟨q, -, hq, h1, h2⟩)
      · cases h
      · exact ⟨q, Nat.zero_le q, hq, (dt_th_kt hH hK (by omega)).mp h2, h1⟩
    · rintro ⟨q, -, hq, h1, h2⟩
      exact Or.inr ⟨q, Nat.zero_le q, hq, h2, (dt_th_kt hH hK (by omega)).mpr h1⟩
  rw [dt_rs_eq, dt_se_eq, hb]
  have hr : 0 ≤ p ∧ p < 0 + 16 := by omega
  have hz : (0 : Int32) ≤ sz p := Int32.le_trans m2 m3
  by_cases hc : dt_ho st sz kt nb p 16 0 = false
  · rw [if_pos ⟨hr, hc⟩]
    by_cases hm : 0 < mr p
    · rw [if_pos ⟨hr, h0, hm, hc⟩]
      exact ⟨rfl, by decide, hz⟩
    · rw [if_neg (fun q => hm q.2.2.1)]
      have : mr p = 0 := Int32.le_antisymm (Int32.not_lt.mp hm) m2
      rw [this]
      exact ⟨rfl, by decide, hz⟩
  · rw [if_neg (fun q => hc q.2), if_neg (fun q => hc q.2.2.2)]
    exact ⟨m1, m2, m3⟩
set_option maxHeartbeats 4000000 in
theorem dt_Rel_split {σ : dt_S0} {τ : dt_S1} (h : dt_Rel σ τ) (x y z : Int32) : (dt_split σ x y z).1 = (dm_split τ x y z).1 ∧ dt_Rel (dt_split σ x y z).2 (dm_split τ x y z).2 := by
  obtain ⟨made, n, st, sz, mr, kt, nb, sl, dp, pc, rt⟩ := σ
  obtain ⟨hd, pc1, rt1, par, st1, sz1, mr1, nb1, made1, gg⟩ := τ
  obtain ⟨rfl, rfl, rfl, rfl, hH, hK, hM, ⟨hn, S, P, hR⟩, hW⟩ := dt_Rel_el h
  by_cases hx : dt_hd pc x = true
  · by_cases hy : dt_fr pc y = true
    · have hx1 := (dt_hd_ms hH x).mp hx
      have hy1 := (dt_fr_tk hH y).mp hy
      obtain ⟨s, p, hs, rfl, hxs, a1, a2, a3, hp, a4, a5, a6⟩ := dt_held hH hx
      obtain ⟨t, ht, rfl, hyt, b1, b2⟩ := dt_free hH hy
      have hkp : 0 < kt p := (dt_KT_pos hK hp).mpr ⟨s, hs, a4⟩
      have hmp : mr1 p = mr p := (hM p hp hkp).1
      simp only [dt_split, dm_split, hx, hy, hx1, hy1, hxs, hyt, a5, a6, hmp, true_and]
      by_cases hz : 1 ≤ z ∧ z ≤ sz p - mr p
      · rw [if_pos hz, if_pos hz]
        obtain ⟨q1, q2, q3⟩ := dt_piece_eq hH hK ht b2
        rw [q1]
        generalize dt_fpc kt 16 0 = q at q2 q3 ⊢
        obtain ⟨i, hi, hSi, hpl⟩ := dt_Rw_slot hR hs a1
        have hn16 := dt_Rw_n hR ht b1
        have hst : s ≠ t := by
          intro e
          rw [e, b1] at a1
          exact absurd a1 (by decide)
        simp only [dt_put, dm_hold, hpl]
        refine ⟨trivial, dt_Rel_mk rfl rfl rfl rfl ?_ ?_ (dt_Mk_split hM hp hkp q3 hz.1 hz.2) ⟨by omega, dt_in S i t, dt_in P i (P i + 1), ?_⟩ ?_⟩
        · intro r hr
          by_cases hrt : r = t
          · subst hrt
            simp only [pk_us]
            exact Or.inl ⟨trivial, trivial, a3, q, q2, rfl⟩
          · rw [pk_un hrt, pk_un hrt, pk_un hrt, pk_un hrt, pk_un hrt]
            exact hH r hr
        · have hK2 : dt_KT (upd kt q 0) pc := by
            intro r hr
            by_cases hrq : r = q
            · subst hrq
              rw [pk_us, ← q3]
              exact hK r hr
            · rw [pk_un hrq]
              exact hK r hr
          exact dt_KT_put hK2 ht q2 b2
        · rw [← hSi]
          exact dt_Rw_put hR hi ht b1
        · intro r hr
          by_cases hrt : r = t
          · subst hrt
            rw [pk_us, pk_us]
            exact ⟨⟨q, q2, rfl⟩, Or.inr ⟨s, hs, rfl⟩⟩
          · rw [pk_un hrt, pk_un hrt]
            exact hW r hr
      · rw [if_neg hz, if_neg hz]
        exact ⟨rfl, h⟩
    · have hy1 : ¬ dt_tk hd y = false := fun q => hy ((dt_fr_tk hH y).mpr q)
      rw [show dt_split (made, n, st, sz, mr, kt, nb, sl, dp, pc, rt) x y z = (-1, (made, n, st, sz, mr, kt, nb, sl, dp, pc, rt)) from if_neg (fun q => hy q.2.1), show dm_split (hd, pc1, rt1, par, st, sz, mr1, nb, made, gg) x y z = (-1, (hd, pc1, rt1, par, st, sz, mr1, nb, made, gg)) from if_neg (fun q => hy1 q.2.1)]
      exact ⟨rfl, h⟩
  · have hx1 : ¬ dt_ms hd x = false := fun q => hx ((dt_hd_ms hH x).mpr q)
    rw [show dt_split (made, n, st, sz, mr, kt, nb, sl, dp, pc, rt) x y z = (-1, (made, n, st, sz, mr, kt, nb, sl, dp, pc, rt)) from if_neg (fun q => hx q.1), show dm_split (hd, pc1, rt1, par, st, sz, mr1, nb, made, gg) x y z = (-1, (hd, pc1, rt1, par, st, sz, mr1, nb, made, gg)) from if_neg (fun q => hx1 q.1)]
    exact ⟨rfl, h⟩
set_option maxHeartbeats 4000000 in
theorem dt_Rel_copy {σ : dt_S0} {τ : dt_S1} (h : dt_Rel σ τ) (x y z : Int32) : (dt_copy σ x y z).1 = (dm_copy τ x y z).1 ∧ dt_Rel (dt_copy σ x y z).2 (dm_copy τ x y z).2 := by
  obtain ⟨made, n, st, sz, mr, kt, nb, sl, dp, pc, rt⟩ := σ
  obtain ⟨hd, pc1, rt1, par, st1, sz1, mr1, nb1, made1, gg⟩ := τ
  obtain ⟨rfl, rfl, rfl, rfl, hH, hK, hM, ⟨hn, S, P, hR⟩, hW⟩ := dt_Rel_el h
  by_cases hx : dt_hd pc x = true
  · by_cases hy : dt_fr pc y = true
    · have hx1 := (dt_hd_ms hH x).mp hx
      have hy1 := (dt_fr_tk hH y).mp hy
      obtain ⟨s, p, hs, rfl, hxs, a1, a2, a3, hp, a4, a5, a6⟩ := dt_held hH hx
      obtain ⟨t, ht, rfl, hyt, b1, b2⟩ := dt_free hH hy
      have hkp : 0 < kt p := (dt_KT_pos hK hp).mpr ⟨s, hs, a4⟩
      obtain ⟨i, hi, hSi, hpl⟩ := dt_Rw_slot hR hs a1
      have hn16 := dt_Rw_n hR ht b1
      simp only [dt_copy, dm_copy, hx, hy, hx1, hy1, hxs, hyt, a5, a2, a3, and_self, if_true, pk_us, dt_put, dm_hold, hpl]
      refine ⟨trivial, dt_Rel_mk rfl rfl rfl rfl ?_ (dt_KT_put hK ht hp b2) ?_ ⟨by omega, dt_in S i t, dt_in P i (P i + 1), ?_⟩ ?_⟩
      · intro r hr
        by_cases hrt : r = t
        · subst hrt
          simp only [pk_us]
          exact Or.inl ⟨trivial, trivial, trivial, p, hp, rfl⟩
        · rw [pk_un hrt, pk_un hrt, pk_un hrt, pk_un hrt, pk_un hrt]
          exact hH r hr
      · intro r hr hk
        refine hM r hr ?_
        by_cases hrp : r = p
        · rw [hrp]; exact hkp
        · rw [pk_un hrp] at hk; exact hk
      · rw [← hSi]
        exact dt_Rw_put hR hi ht b1
      · intro r hr
        by_cases hrt : r = t
        · subst hrt
          rw [pk_us, pk_us]
          exact ⟨⟨p, hp, rfl⟩, Or.inr ⟨s, hs, rfl⟩⟩
        · rw [pk_un hrt, pk_un hrt]
          exact hW r hr
    · have hy1 : ¬ dt_tk hd y = false := fun q => hy ((dt_fr_tk hH y).mpr q)
      rw [show dt_copy (made, n, st, sz, mr, kt, nb, sl, dp, pc, rt) x y z = (-1, (made, n, st, sz, mr, kt, nb, sl, dp, pc, rt)) from if_neg (fun q => hy q.2), show dm_copy (hd, pc1, rt1, par, st, sz, mr1, nb, made, gg) x y z = (-1, (hd, pc1, rt1, par, st, sz, mr1, nb, made, gg)) from if_neg (fun q => hy1 q.2)]
      exact ⟨rfl, h⟩
  · have hx1 : ¬ dt_ms hd x = false := fun q => hx ((dt_hd_ms hH x).mpr q)
    rw [show dt_copy (made, n, st, sz, mr, kt, nb, sl, dp, pc, rt) x y z = (-1, (made, n, st, sz, mr, kt, nb, sl, dp, pc, rt)) from if_neg (fun q => hx q.1), show dm_copy (hd, pc1, rt1, par, st, sz, mr1, nb, made, gg) x y z = (-1, (hd, pc1, rt1, par, st, sz, mr1, nb, made, gg)) from if_neg (fun q => hx1 q.1)]
    exact ⟨rfl, h⟩
end
section
set_option maxHeartbeats 4000000 in
theorem dt_Rel_move {σ : dt_S0} {τ : dt_S1} (h : dt_Rel σ τ) (x y : Int32) : (dt_move σ x y).1 = (dm_move τ x y).1 ∧ dt_Rel (dt_move σ x y).2 (dm_move τ x y).2 := by
  obtain ⟨made, n, st, sz, mr, kt, nb, sl, dp, pc, rt⟩ := σ
  obtain ⟨hd, pc1, rt1, par, st1, sz1, mr1, nb1, made1, gg⟩ := τ
  obtain ⟨rfl, rfl, rfl, rfl, hH, hK, hM, ⟨hn, S, P, hR⟩, hW⟩ := dt_Rel_el h
  by_cases hx : dt_hd pc x = true
  · by_cases hy : dt_fr pc y = true
    · have hx1 := (dt_hd_ms hH x).mp hx
      have hy1 := (dt_fr_tk hH y).mp hy
      obtain ⟨s, p, hs, rfl, hxs, a1, a2, a3, hp, a4, a5, a6⟩ := dt_held hH hx
      obtain ⟨t, ht, rfl, hyt, b1, b2⟩ := dt_free hH hy
      obtain ⟨i, hi, hSi, hpl⟩ := dt_Rw_slot hR hs a1
      have hst : s ≠ t := by
        intro e
        rw [e, b1] at a1
        exact absurd a1 (by decide)
      simp only [dt_move, dm_move, hx, hy, hx1, hy1, hxs, hyt, and_self, if_true, hpl]
      obtain ⟨h1, h2, h3, h4, h5, h6⟩ := id hR
      have hne : ∀ k, k < n → S k ≠ t := fun k hk e => by
        have := (h1 k hk).2.2
        rw [e, b1] at this
        exact absurd this (by decide)
      have hns : ∀ k, k < n → k ≠ i → S k ≠ s := fun k hk hki e => hki (h2 k i hk hi (e.trans hSi.symm))
      have hpar := (dt_hn_eq (upd (upd hd t 1) s 0) (nI s) (nI t) 16 0 0 (upd par t (par s))).2
      generalize (dt_hn (upd (upd hd t 1) s 0) (nI s) (nI t) 16 0 0 (upd par t (par s))).2 = par' at hpar ⊢
      -- the parent of the moved key
      have parS : par s ≠ nI s := by
        rw [← hSi]
        intro e
        have := (dt_par_iff hR hi hi).mp e
        have := this.1
        omega
      have part : par' t = par s := by
        rw [hpar t, pk_us, if_neg (fun q => parS q.2.2)]
      have paro : ∀ k, k < n → k ≠ i → par' (S k) = if par (S k) = nI s then nI t else par (S k) := by
        intro k hk hki
        rw [hpar (S k), pk_un (hns k hk hki), pk_un (hne k hk), pk_un (hne k hk)]
        have hSk := (h1 k hk).2
        have hr : 0 ≤ S k ∧ S k < 0 + 16 := by omega
        have hh : ¬ hd (S k) = 0 := by rw [hSk.2]; decide
        simp only [hr, hh, and_self, true_and, not_false_eq_true]
      refine ⟨trivial, dt_Rel_mk rfl rfl rfl rfl ?_ (dt_KT_move hK hs ht hst b2) hM ⟨hn, fun k => if k = i then t else S k, P, ?_, ?_, ?_, h4, h5, ?_⟩ ?_⟩
      · intro r hr
        by_cases hrs : r = s
        · subst hrs
          rw [pk_us, pk_us]
          exact Or.inr ⟨rfl, rfl⟩
        · rw [pk_un hrs, pk_un hrs]
          by_cases hrt : r = t
          · subst hrt
            simp only [pk_us]
            exact Or.inl ⟨trivial, a2.trans a4.symm, a3, p, hp, a4⟩
          · rw [pk_un hrt, pk_un hrt, pk_un hrt, pk_un hrt, pk_un hrt]
            exact hH r hr
      · intro k hk
        by_cases hki : k = i
        · subst hki
          simp only [if_true, pk_us]
          exact ⟨trivial, ht, by rw [pk_un (Ne.symm hst), pk_us]⟩
        · simp only [hki, if_false]
          rw [pk_un hki, pk_un (hns k hk hki), pk_un (hne k hk)]
          exact h1 k hk
      · intro j k hj hk e
        by_cases hji : j = i
        · by_cases hki : k = i
          · rw [hji, hki]
          · simp only [hji, hki, if_true, if_false] at e
            exact absurd e.symm (hne k hk)
        · by_cases hki : k = i
          · simp only [hji, hki, if_true, if_false] at e
            exact absurd e (hne j hj)
          · simp only [hji, hki, if_false] at e
            exact h2 j k hj hk e
      · intro r hr hh
        by_cases hrs : r = s
        · subst hrs
          rw [pk_us] at hh
          exact absurd hh (by decide)
        · rw [pk_un hrs] at hh
          by_cases hrt : r = t
          · exact ⟨i, hi, by simp only [if_true]; exact hrt.symm⟩
          · rw [pk_un hrt] at hh
            obtain ⟨k, hk, e⟩ := h3 r hr hh
            have hki : k ≠ i := by
              intro q
              rw [q, hSi] at e
              exact hrs e.symm
            exact ⟨k, hk, by simp only [hki, if_false]; exact e⟩
      · intro k hk
        by_cases hki : k = i
        · subst hki
          simp only [if_true]
          rw [part]
          rcases h6 k hk with ⟨hN, e⟩ | ⟨j, hU, e⟩
          · rw [hSi] at e
            exact Or.inl ⟨hN, e⟩
          · rw [hSi] at e
            have hjk : j ≠ k := by have := hU.1; omega
            exact Or.inr ⟨j, hU, by simp only [hjk, if_false]; exact e⟩
        · simp only [hki, if_false]
          rw [paro k hk hki]
          rcases h6 k hk with ⟨hN, e⟩ | ⟨j, hU, e⟩
          · rw [e, if_neg (fun q => dt_m1_ne (by omega) q.symm)]
            exact Or.inl ⟨hN, rfl⟩
          · have hj : j < n := by have := hU.1; omega
            have hSj := (h1 j hj).2.1
            by_cases hji : j = i
            · subst hji
              rw [e, hSi, if_pos rfl]
              exact Or.inr ⟨j, hU, by simp only [if_true]⟩
            · rw [e, if_neg (fun q => hns j hj hji ((nI_eq (by omega) (by omega)).mp q))]
              exact Or.inr ⟨j, hU, by simp only [hji, if_false]⟩
      · intro r hr
        constructor
        · by_cases hrt : r = t
          · subst hrt
            rw [pk_us]
            exact ⟨p, hp, a2⟩
          · rw [pk_un hrt]
            exact (hW r hr).1
        · rw [hpar r]
          split
          · exact Or.inr ⟨t, ht, rfl⟩
          · by_cases hrt : r = t
            · subst hrt
              rw [pk_us]
              exact (hW s hs).2
            · rw [pk_un hrt]
              exact (hW r hr).2
    · have hy1 : ¬ dt_tk hd y = false := fun q => hy ((dt_fr_tk hH y).mpr q)
      rw [show dt_move (made, n, st, sz, mr, kt, nb, sl, dp, pc, rt) x y = (-1, (made, n, st, sz, mr, kt, nb, sl, dp, pc, rt)) from if_neg (fun q => hy q.2), show dm_move (hd, pc1, rt1, par, st, sz, mr1, nb, made, gg) x y = (-1, (hd, pc1, rt1, par, st, sz, mr1, nb, made, gg)) from if_neg (fun q => hy1 q.2)]
      exact ⟨rfl, h⟩
  · have hx1 : ¬ dt_ms hd x = false := fun q => hx ((dt_hd_ms hH x).mpr q)
    rw [show dt_move (made, n, st, sz, mr, kt, nb, sl, dp, pc, rt) x y = (-1, (made, n, st, sz, mr, kt, nb, sl, dp, pc, rt)) from if_neg (fun q => hx q.1), show dm_move (hd, pc1, rt1, par, st, sz, mr1, nb, made, gg) x y = (-1, (hd, pc1, rt1, par, st, sz, mr1, nb, made, gg)) from if_neg (fun q => hx1 q.1)]
    exact ⟨rfl, h⟩
/-- marks of pieces that keep a key -/
theorem dt_Mk_less {kt kt' pc pc' mr mr1 sz : dt_F} (hK : dt_KT kt pc) (hK' : dt_KT kt' pc') (hM : dt_Mk kt mr mr1 sz) (hl : ∀ s p, s < 16 → p < 16 → pc' s = nI p → pc s = nI p) : dt_Mk kt' mr mr1 sz := by
  intro p hp h0
  obtain ⟨s, hs, e⟩ := (dt_KT_pos hK' hp).mp h0
  exact hM p hp ((dt_KT_pos hK hp).mpr ⟨s, hs, hl s p hs hp e⟩)
set_option maxHeartbeats 4000000 in
theorem dt_Rel_delete {σ : dt_S0} {τ : dt_S1} (h : dt_Rel σ τ) (x : Int32) : (dt_delete σ x).1 = (dm_delete τ x).1 ∧ dt_Rel (dt_delete σ x).2 (dm_delete τ x).2 := by
  obtain ⟨made, n, st, sz, mr, kt, nb, sl, dp, pc, rt⟩ := σ
  obtain ⟨hd, pc1, rt1, par, st1, sz1, mr1, nb1, made1, gg⟩ := τ
  obtain ⟨rfl, rfl, rfl, rfl, hH, hK, hM, ⟨hn, S, P, hR⟩, hW⟩ := dt_Rel_el h
  by_cases hx : dt_hd pc x = true
  · have hx1 := (dt_hd_ms hH x).mp hx
    obtain ⟨s, p, hs, rfl, hxs, a1, a2, a3, hp, a4, a5, a6⟩ := dt_held hH hx
    obtain ⟨i, hi, hSi, hpl⟩ := dt_Rw_slot hR hs a1
    simp only [dt_delete, dm_delete, hx, hx1, hxs, if_true, hpl, dt_fgk, a5]
    have hE := dt_Rw_En hn hR hi
    generalize dt_end dp n i = e at hE ⊢
    obtain ⟨h1, h2, h3, h4, h5, h6⟩ := id hR
    have hns : ∀ k, k < n → k ≠ i → S k ≠ s := fun k hk hki q => hki (h2 k i hk hi (q.trans hSi.symm))
    have hPle := dt_Dp_le h5
    obtain ⟨lf1, lf2⟩ := dt_lf_eq (dp i) (e - (i + 1)) (i + 1) 0 dp
    generalize dt_lf (dp i) (e - (i + 1)) (i + 1) 0 dp = cd at lf1 lf2 ⊢
    obtain ⟨hn1, hn2⟩ := dt_hn_eq (upd hd s 0) (nI s) (par s) 16 0 0 par
    generalize dt_hn (upd hd s 0) (nI s) (par s) 16 0 0 par = cp at hn1 hn2 ⊢
    have parS : par s ≠ nI s := by
      rw [← hSi]
      intro q
      have := (dt_par_iff hR hi hi).mp q
      have := this.1
      omega
    -- the new state, slot by slot
    have hH' : dt_Hs (upd hd s 0) (upd pc s (-1)) pc1 rt rt1 := by
      intro r hr
      by_cases hrs : r = s
      · subst hrs
        rw [pk_us, pk_us]
        exact Or.inr ⟨rfl, rfl⟩
      · rw [pk_un hrs, pk_un hrs]
        exact hH r hr
    have hK' := dt_KT_forget hK hs hp a4
    have hM' := dt_Mk_less hK hK' hM (fun r q hr hq e => by
      by_cases hrs : r = s
      · subst hrs
        rw [pk_us] at e
        exact absurd e.symm (dt_m1_ne (by omega))
      · rw [pk_un hrs] at e
        exact e)
    refine ⟨?_, dt_Rel_mk rfl rfl rfl rfl hH' hK' (dt_settle hH' hK' hM') ⟨by omega, fun k => S (dt_ph i 1 k), fun k => dt_lift P i e (dt_ph i 1 k), ?_, ?_, ?_, ?_, dt_dl_Dp h5 hE, ?_⟩ ?_⟩
    · -- the children
      rw [lf1, hn1]
      congr 2
      have c1 := dt_cn_congr (Q := fun j => !decide (upd hd s 0 j = 0) && decide (par j = nI s)) (Q' := fun j => decide (hd j = 1) && decide (par j = nI s)) 16 0 (fun j _ hj => by
        show (!decide (upd hd s 0 j = 0) && decide (par j = nI s)) = (decide (hd j = 1) && decide (par j = nI s))
        by_cases hjs : j = s
        · subst hjs
          simp only [parS, decide_false, Bool.and_false]
        · rw [pk_un hjs]
          rcases hH j (by omega) with ⟨q, -⟩ | ⟨q, -⟩
          · rw [q]; rfl
          · rw [q]; rfl)
      rw [c1, dt_Rw_cn hR (fun j => decide (par j = nI s))]
      have c2 := dt_cn_win (Q := fun j => decide (dp j = dp i + 1)) (Q' := fun k => decide (par (S k) = nI s)) (n := n) (a := i + 1) (g := e - (i + 1)) (by have := hE.2.1; have := hE.1; omega) (fun k k1 k2 => by
        have hkn : k < n := by have := hE.2.1; omega
        have iff1 : par (S k) = nI s ↔ dp k = dp i + 1 := by
          rw [← hSi, dt_par_iff hR hi hkn, dt_child h5 hE hkn, h4 k hkn, h4 i hi, nI_1]
          have := hPle k hkn
          have := hPle i hi
          rw [nI_eq (by omega) (by omega)]
          exact ⟨fun q => q.2.2, fun q => ⟨by omega, by omega, q⟩⟩
        show decide (par (S k) = nI s) = decide (dp k = dp i + 1)
        simp only [iff1]) (fun k k1 k2 => by
        have : ¬ par (S k) = nI s := by
          rw [← hSi, dt_par_iff hR hi k1, dt_child h5 hE k1]
          intro q
          have := hE.1
          omega
        simp only [this, decide_false])
      exact c2.symm
    · intro k hk
      have hk2 : dt_ph i 1 k < n := dt_ph_n (by omega)
      have hki : dt_ph i 1 k ≠ i := by rcases dt_ph_out i 1 k with q | q <;> omega
      have hsl : dt_shd 1 (n - (i + 1)) (i + 1) sl k = sl (dt_ph i 1 k) := by
        rw [dt_shd_eq 1 _ _ _ _ (by omega)]
        by_cases hik : i ≤ k
        · rw [if_pos (by omega), dt_ph_hi hik]
        · rw [if_neg (by omega), dt_ph_lo (by omega)]
      rw [hsl, pk_un (hns _ hk2 hki)]
      exact h1 _ hk2
    · intro j k hj hk q
      exact dt_ph_inj (h2 _ _ (dt_ph_n (by omega)) (dt_ph_n (by omega)) q)
    · intro r hr hh
      by_cases hrs : r = s
      · subst hrs
        rw [pk_us] at hh
        exact absurd hh (by decide)
      · rw [pk_un hrs] at hh
        obtain ⟨k0, hk0, q⟩ := h3 r hr hh
        have hk0i : k0 ≠ i := by
          intro q2
          rw [q2, hSi] at q
          exact hrs q.symm
        obtain ⟨k, hk⟩ := dt_ph_of (a := i) (g := 1) (q := k0) (by omega)
        refine ⟨k, ?_, by show S (dt_ph i 1 k) = r; rw [hk]; exact q⟩
        have := dt_ph_n' (a := i) (g := 1) (n := n) (k := k) (by omega) (by omega)
        omega
    · intro k hk
      have hk2 : dt_ph i 1 k < n := dt_ph_n (by omega)
      have hsl : dt_shd 1 (n - (i + 1)) (i + 1) cd.2 k = cd.2 (dt_ph i 1 k) := by
        rw [dt_shd_eq 1 _ _ _ _ (by omega)]
        by_cases hik : i ≤ k
        · rw [if_pos (by omega), dt_ph_hi hik]
        · rw [if_neg (by omega), dt_ph_lo (by omega)]
      rw [hsl, lf2, h4 _ hk2]
      show _ = nI (dt_lift P i e (dt_ph i 1 k))
      have he := hE.1
      by_cases hin : i < dt_ph i 1 k ∧ dt_ph i 1 k < e
      · rw [if_pos (by omega), dt_lift_in hin.1 hin.2]
        have := hE.2.2.1 _ hin.1 hin.2
        exact pk_sub (a := P (dt_ph i 1 k)) (b := 1) (by omega)
      · rw [if_neg (by omega), dt_lift_out (by omega)]
    · intro k hk
      have hk2 : dt_ph i 1 k < n := dt_ph_n (by omega)
      have hki : dt_ph i 1 k ≠ i := by rcases dt_ph_out i 1 k with q | q <;> omega
      have hSk := (h1 _ hk2).2
      have hpar : cp.2 (S (dt_ph i 1 k)) = if par (S (dt_ph i 1 k)) = nI s then par s else par (S (dt_ph i 1 k)) := by
        rw [hn2, pk_un (hns _ hk2 hki)]
        have hr : 0 ≤ S (dt_ph i 1 k) ∧ S (dt_ph i 1 k) < 0 + 16 := by omega
        have hh : ¬ hd (S (dt_ph i 1 k)) = 0 := by rw [hSk.2]; decide
        simp only [hr, hh, and_self, true_and, not_false_eq_true]
      show (dt_No (fun k => dt_lift P i e (dt_ph i 1 k)) k ∧ cp.2 (S (dt_ph i 1 k)) = -1) ∨ ∃ j, dt_Up (fun k => dt_lift P i e (dt_ph i 1 k)) k j ∧ cp.2 (S (dt_ph i 1 k)) = nI (S (dt_ph i 1 j))
      rw [hpar]
      rcases h6 _ hk2 with ⟨hN, q⟩ | ⟨j, hU, q⟩
      · rw [q, if_neg (fun q => dt_m1_ne (by omega) q.symm)]
        exact Or.inl ⟨dt_dl_No hE hN, rfl⟩
      · have hj : j < n := by have := hU.1; omega
        have hSj := (h1 j hj).2.1
        by_cases hji : j = i
        · subst hji
          rw [q, hSi, if_pos rfl, ← hSi]
          rcases h6 j hj with ⟨hN2, q2⟩ | ⟨r, hU2, q2⟩
          · exact Or.inl ⟨dt_dl_gone_No h5 hE hk2 hU hN2, q2⟩
          · refine Or.inr ⟨r, dt_dl_gone_Up h5 hE hk2 hU hU2, ?_⟩
            rw [dt_ph_lo hU2.1]
            exact q2
        · rw [q, if_neg (fun q2 => hns j hj hji ((nI_eq (by omega) (by omega)).mp q2))]
          obtain ⟨j', hj'⟩ := dt_ph_of (a := i) (g := 1) (q := j) (by omega)
          refine Or.inr ⟨j', dt_dl_Up hE hk2 (by rw [hj']; exact hU), ?_⟩
          rw [hj']
    · intro r hr
      refine ⟨(hW r hr).1, ?_⟩
      rw [hn2]
      split
      · exact (hW s hs).2
      · exact (hW r hr).2
  · have hx1 : ¬ dt_ms hd x = false := fun q => hx ((dt_hd_ms hH x).mpr q)
    rw [show dt_delete (made, n, st, sz, mr, kt, nb, sl, dp, pc, rt) x = (-1, (made, n, st, sz, mr, kt, nb, sl, dp, pc, rt)) from if_neg (fun q => hx q), show dm_delete (hd, pc1, rt1, par, st, sz, mr1, nb, made, gg) x = (-1, (hd, pc1, rt1, par, st, sz, mr1, nb, made, gg)) from if_neg (fun q => hx1 q)]
    exact ⟨rfl, h⟩
end
section
/-- forgetting the keys at places k .. k + d - 1 -/
theorem dt_fgs_ok {sl : dt_F} {S : Nat → Nat} {n : Nat} (hsl : ∀ k, k < n → sl k = nI (S k) ∧ S k < 16) (hinj : ∀ j k, j < n → k < n → S j = S k → j = k) : ∀ d k kt pc, k + d ≤ n → dt_KT kt pc → (∀ j, k ≤ j → j < n → ∃ q, q < 16 ∧ pc (S j) = nI q) →
    dt_KT (dt_fgs sl d k kt pc).1 (dt_fgs sl d k kt pc).2 ∧ (∀ j, k ≤ j → j < k + d → (dt_fgs sl d k kt pc).2 (S j) = -1) ∧ (∀ s, (∀ j, k ≤ j → j < k + d → S j ≠ s) → (dt_fgs sl d k kt pc).2 s = pc s) := by
  intro d
  induction d with
  | zero => intro k kt pc _ hK _; exact ⟨hK, fun j h1 h2 => by omega, fun s _ => rfl⟩
  | succ d ih =>
    intro k kt pc hk hK hq
    obtain ⟨e1, hS⟩ := hsl k (by omega)
    obtain ⟨q, hq1, hq2⟩ := hq k (Nat.le_refl k) (by omega)
    have e : dt_fgs sl (d + 1) k kt pc = dt_fgs sl d (k + 1) (upd kt q (kt q - 1)) (upd pc (S k) (-1)) := by
      show dt_fgs sl d (k + 1) (dt_fgk kt pc (sl k).toNatClampNeg) (upd pc (sl k).toNatClampNeg (-1)) = _
      rw [e1, nI_clamp (by omega)]
      unfold dt_fgk
      rw [hq2, nI_clamp (by omega)]
    rw [e]
    have hne : ∀ j, k + 1 ≤ j → j < n → S j ≠ S k := fun j h1 h2 h3 => by
      have := hinj j k h2 (by omega) h3
      omega
    obtain ⟨i1, i2, i3⟩ := ih (k + 1) (upd kt q (kt q - 1)) (upd pc (S k) (-1)) (by omega) (dt_KT_forget hK hS hq1 hq2) (fun j h1 h2 => by
      rw [pk_un (hne j h1 h2)]
      exact hq j (by omega) h2)
    refine ⟨i1, fun j h1 h2 => ?_, fun s hs => ?_⟩
    · by_cases hj : j = k
      · subst hj
        rw [i3 (S j) (fun j' h3 h4 => hne j' h3 (by omega)), pk_us]
      · exact i2 j (by omega) (by omega)
    · rw [i3 s (fun j h1 h2 => hs j (by omega) (by omega)), pk_un (fun q => hs k (Nat.le_refl k) (by omega) q.symm)]
set_option maxHeartbeats 4000000 in
theorem dt_Rel_revoke {σ : dt_S0} {τ : dt_S1} (h : dt_Rel σ τ) (x : Int32) : (dt_revoke σ x).1 = (dm_revoke τ x).1 ∧ dt_Rel (dt_revoke σ x).2 (dm_revoke τ x).2 := by
  obtain ⟨made, n, st, sz, mr, kt, nb, sl, dp, pc, rt⟩ := σ
  obtain ⟨hd, pc1, rt1, par, st1, sz1, mr1, nb1, made1, gg⟩ := τ
  obtain ⟨rfl, rfl, rfl, rfl, hH, hK, hM, ⟨hn, S, P, hR⟩, hW⟩ := dt_Rel_el h
  by_cases hx : dt_hd pc x = true
  · have hx1 := (dt_hd_ms hH x).mp hx
    obtain ⟨s, p, hs, rfl, hxs, a1, a2, a3, hp, a4, a5, a6⟩ := dt_held hH hx
    obtain ⟨i, hi, hSi, hpl⟩ := dt_Rw_slot hR hs a1
    simp only [dt_revoke, dm_revoke, hx, hx1, if_true, hpl]
    have hE := dt_Rw_En hn hR hi
    generalize dt_end dp n i = e at hE ⊢
    obtain ⟨h1, h2, h3, h4, h5, h6⟩ := id hR
    have he1 := hE.1
    have he2 := hE.2.1
    obtain ⟨f1, f2, f3⟩ := dt_fgs_ok (sl := sl) (S := S) (n := n) (fun k hk => ⟨(h1 k hk).1, (h1 k hk).2.1⟩) h2 (e - (i + 1)) (i + 1) kt pc (by omega) hK (fun j _ hj => by
      obtain ⟨-, q1, q2⟩ := h1 j hj
      rcases hH (S j) q1 with ⟨-, -, -, q, q3, q4⟩ | ⟨q3, -⟩
      · exact ⟨q, q3, q4⟩
      · rw [q2] at q3
        exact absurd q3 (by decide))
    generalize dt_fgs sl (e - (i + 1)) (i + 1) kt pc = kp at f1 f2 f3 ⊢
    -- who goes
    have hgs := dt_gs_eq hd par (nI s) 16 0 gg
    generalize dt_gs hd par (nI s) 16 0 gg = gg' at hgs ⊢
    have hbl : ∀ k, k < n → (dt_bl par (nI s) 16 (par (S k)) = true ↔ (i < k ∧ k < e)) := fun k hk => by
      rw [← hSi, dt_bl_ok hR hi k hk 16 (by omega), dt_Dn_En hE hk]
    obtain ⟨g1, g2⟩ := dt_gn_eq gg' 16 0 0 hd
    generalize dt_gn gg' 16 0 0 hd = ch at g1 g2 ⊢
    have ggS : ∀ k, k < n → (¬ gg' (S k) = 0 ↔ (i < k ∧ k < e)) := fun k hk => by
      have hSk := (h1 k hk).2
      rw [hgs, if_pos (by omega), dt_b_t, hSk.2]
      have : (!decide ((1 : Int32) = 0)) = true := by decide
      rw [this, Bool.true_and]
      exact hbl k hk
    have hdS : ∀ k, k < n → ch.2 (S k) = if i < k ∧ k < e then 0 else 1 := fun k hk => by
      have hSk := (h1 k hk).2
      rw [g2, hSk.2]
      by_cases hc : i < k ∧ k < e
      · rw [if_pos hc, if_pos ⟨by omega, (ggS k hk).mpr hc⟩]
      · rw [if_neg hc, if_neg (fun q => hc ((ggS k hk).mp q.2))]
    have hd0 : ∀ r, hd r = 0 → ch.2 r = 0 := fun r hr => by
      rw [g2, hr]
      split <;> rfl
    have hd1 : ∀ r, ch.2 r = 1 → hd r = 1 := fun r hr => by
      rw [g2] at hr
      split at hr
      · exact absurd hr (by decide)
      · exact hr
    have hH' : dt_Hs ch.2 kp.2 pc1 rt rt1 := by
      intro r hr
      rcases hH r hr with q | ⟨q1, q2⟩
      · obtain ⟨k, hk, e1⟩ := h3 r hr q.1
        subst e1
        by_cases hc : i < k ∧ k < e
        · refine Or.inr ⟨?_, f2 k (by omega) (by omega)⟩
          rw [hdS k hk, if_pos hc]
        · have e3 : kp.2 (S k) = pc (S k) := f3 (S k) (fun j j1 j2 q => by
            have := h2 j k (by omega) hk q
            omega)
          rw [hdS k hk, if_neg hc, e3]
          exact Or.inl ⟨rfl, q.2⟩
      · have e3 : kp.2 r = pc r := f3 r (fun j j1 j2 q => by
          have := (h1 j (by omega)).2.2
          rw [q, q1] at this
          exact absurd this (by decide))
        rw [e3]
        exact Or.inr ⟨hd0 r q1, q2⟩
    have hM' := dt_Mk_less hK f1 hM (fun r q hr hq e1 => by
      by_cases hc : ∃ j, i + 1 ≤ j ∧ j < i + 1 + (e - (i + 1)) ∧ S j = r
      · obtain ⟨j, j1, j2, j3⟩ := hc
        rw [← j3, f2 j j1 j2] at e1
        exact absurd e1.symm (dt_m1_ne (by omega))
      · rw [f3 r (fun j j1 j2 j3 => hc ⟨j, j1, j2, j3⟩)] at e1
        exact e1)
    refine ⟨?_, dt_Rel_mk rfl rfl rfl rfl hH' f1 (dt_settle hH' f1 hM') ⟨by omega, fun k => S (dt_ph (i + 1) (e - (i + 1)) k), fun k => P (dt_ph (i + 1) (e - (i + 1)) k), ?_, ?_, ?_, ?_, dt_rv_Dp h5 hE, ?_⟩ hW⟩
    · -- how many
      rw [g1, Int32.zero_add]
      congr 1
      have c1 := dt_cn_congr (Q := fun j => !decide (gg' j = 0)) (Q' := fun j => decide (hd j = 1) && dt_bl par (nI s) 16 (par j)) 16 0 (fun j _ hj => by
        show (!decide (gg' j = 0)) = (decide (hd j = 1) && dt_bl par (nI s) 16 (par j))
        rw [hgs, if_pos (by omega)]
        rcases hH j (by omega) with ⟨q, -⟩ | ⟨q, -⟩
        · rw [q]
          cases dt_bl par (nI s) 16 (par j) <;> rfl
        · rw [q]
          cases dt_bl par (nI s) 16 (par j) <;> rfl)
      rw [c1, dt_Rw_cn hR (fun j => dt_bl par (nI s) 16 (par j)), ← dt_cn_between i e n he1 he2]
      refine dt_cn_congr n 0 (fun k _ hk => ?_)
      show decide (i < k ∧ k < e) = dt_bl par (nI s) 16 (par (S k))
      rw [Bool.eq_iff_iff, decide_eq_true_eq]
      exact (hbl k (by omega)).symm
    · intro k hk
      have hk2 : dt_ph (i + 1) (e - (i + 1)) k < n := dt_ph_n (by omega)
      have hout := dt_ph_out (i + 1) (e - (i + 1)) k
      have hsl : dt_shd (e - (i + 1)) (n - e) e sl k = sl (dt_ph (i + 1) (e - (i + 1)) k) := by
        rw [dt_shd_eq _ _ _ _ _ (by omega)]
        by_cases hik : i + 1 ≤ k
        · rw [if_pos (by omega), dt_ph_hi hik]
        · rw [if_neg (by omega), dt_ph_lo (by omega)]
      refine ⟨hsl.trans (h1 _ hk2).1, (h1 _ hk2).2.1, ?_⟩
      rw [hdS _ hk2, if_neg (by omega)]
    · intro j k hj hk q
      exact dt_ph_inj (h2 _ _ (dt_ph_n (by omega)) (dt_ph_n (by omega)) q)
    · intro r hr hh
      obtain ⟨k0, hk0, q⟩ := h3 r hr (hd1 r hh)
      subst q
      have hc : ¬ (i < k0 ∧ k0 < e) := by
        intro hc
        rw [hdS k0 hk0, if_pos hc] at hh
        exact absurd hh (by decide)
      obtain ⟨k, hk⟩ := dt_ph_of (a := i + 1) (g := e - (i + 1)) (q := k0) (by omega)
      refine ⟨k, ?_, by show S (dt_ph (i + 1) (e - (i + 1)) k) = S k0; rw [hk]⟩
      have := dt_ph_n' (a := i + 1) (g := e - (i + 1)) (n := n) (k := k) (by omega) (by omega)
      omega
    · intro k hk
      have hk2 : dt_ph (i + 1) (e - (i + 1)) k < n := dt_ph_n (by omega)
      have hsl : dt_shd (e - (i + 1)) (n - e) e dp k = dp (dt_ph (i + 1) (e - (i + 1)) k) := by
        rw [dt_shd_eq _ _ _ _ _ (by omega)]
        by_cases hik : i + 1 ≤ k
        · rw [if_pos (by omega), dt_ph_hi hik]
        · rw [if_neg (by omega), dt_ph_lo (by omega)]
      exact hsl.trans (h4 _ hk2)
    · intro k hk
      have hk2 : dt_ph (i + 1) (e - (i + 1)) k < n := dt_ph_n (by omega)
      have hout := dt_ph_out (i + 1) (e - (i + 1)) k
      rcases h6 _ hk2 with ⟨hN, q⟩ | ⟨j, hU, q⟩
      · exact Or.inl ⟨dt_rv_No hN, q⟩
      · have hjo : j < i + 1 ∨ e ≤ j := by
          have hj := hU.1
          rcases hout with q2 | q2
          · exact Or.inl (by omega)
          · rcases dt_far hE hk2 (by omega) hU with q3 | q3
            · exact Or.inl (by omega)
            · exact Or.inr q3
        obtain ⟨j', hj'⟩ := dt_ph_of (a := i + 1) (g := e - (i + 1)) (q := j) (by omega)
        refine Or.inr ⟨j', dt_rv_Up (by rw [hj']; exact hU), ?_⟩
        show par (S (dt_ph (i + 1) (e - (i + 1)) k)) = nI (S (dt_ph (i + 1) (e - (i + 1)) j'))
        rw [hj']
        exact q
  · have hx1 : ¬ dt_ms hd x = false := fun q => hx ((dt_hd_ms hH x).mpr q)
    rw [show dt_revoke (made, n, st, sz, mr, kt, nb, sl, dp, pc, rt) x = (-1, (made, n, st, sz, mr, kt, nb, sl, dp, pc, rt)) from if_neg (fun q => hx q), show dm_revoke (hd, pc1, rt1, par, st, sz, mr1, nb, made, gg) x = (-1, (hd, pc1, rt1, par, st, sz, mr1, nb, made, gg)) from if_neg (fun q => hx1 q)]
    exact ⟨rfl, h⟩
theorem dt_Rel_piece {σ : dt_S0} {τ : dt_S1} (h : dt_Rel σ τ) (x : Int32) : dt_piece σ x = dm_piece τ x := by
  obtain ⟨made, n, st, sz, mr, kt, nb, sl, dp, pc, rt⟩ := σ
  obtain ⟨hd, pc1, rt1, par, st1, sz1, mr1, nb1, made1, gg⟩ := τ
  obtain ⟨rfl, rfl, rfl, rfl, hH, hK, hM, ⟨hn, S, P, hR⟩, hW⟩ := dt_Rel_el h
  by_cases hx : dt_hd pc x = true
  · have hx1 := (dt_hd_ms hH x).mp hx
    obtain ⟨s, p, hs, rfl, hxs, a1, a2, a3, hp, a4, a5, a6⟩ := dt_held hH hx
    simp only [dt_piece, dm_piece, hx, hx1, hxs, a5, a6, if_true]
  · have hx1 : ¬ dt_ms hd x = false := fun q => hx ((dt_hd_ms hH x).mpr q)
    rw [show dt_piece (made, n, st, sz, mr, kt, nb, sl, dp, pc, rt) x = -1 from if_neg (fun q => hx q), show dm_piece (hd, pc1, rt1, par, st, sz, mr1, nb, made, gg) x = -1 from if_neg (fun q => hx1 q)]
theorem dt_Rel_rights {σ : dt_S0} {τ : dt_S1} (h : dt_Rel σ τ) (x : Int32) : dt_rights σ x = dm_rights τ x := by
  obtain ⟨made, n, st, sz, mr, kt, nb, sl, dp, pc, rt⟩ := σ
  obtain ⟨hd, pc1, rt1, par, st1, sz1, mr1, nb1, made1, gg⟩ := τ
  obtain ⟨rfl, rfl, rfl, rfl, hH, hK, hM, ⟨hn, S, P, hR⟩, hW⟩ := dt_Rel_el h
  by_cases hx : dt_hd pc x = true
  · have hx1 := (dt_hd_ms hH x).mp hx
    obtain ⟨s, p, hs, rfl, hxs, a1, a2, a3, hp, a4, a5, a6⟩ := dt_held hH hx
    simp only [dt_rights, dm_rights, hx, hx1, hxs, a3, if_true]
  · have hx1 : ¬ dt_ms hd x = false := fun q => hx ((dt_hd_ms hH x).mpr q)
    rw [show dt_rights (made, n, st, sz, mr, kt, nb, sl, dp, pc, rt) x = -1 from if_neg (fun q => hx q), show dm_rights (hd, pc1, rt1, par, st, sz, mr1, nb, made, gg) x = -1 from if_neg (fun q => hx1 q)]
theorem dt_Rel_room {σ : dt_S0} {τ : dt_S1} (h : dt_Rel σ τ) (x : Int32) : dt_room σ x = dm_room τ x := by
  obtain ⟨made, n, st, sz, mr, kt, nb, sl, dp, pc, rt⟩ := σ
  obtain ⟨hd, pc1, rt1, par, st1, sz1, mr1, nb1, made1, gg⟩ := τ
  obtain ⟨rfl, rfl, rfl, rfl, hH, hK, hM, ⟨hn, S, P, hR⟩, hW⟩ := dt_Rel_el h
  by_cases hx : dt_hd pc x = true
  · have hx1 := (dt_hd_ms hH x).mp hx
    obtain ⟨s, p, hs, rfl, hxs, a1, a2, a3, hp, a4, a5, a6⟩ := dt_held hH hx
    have hkp : 0 < kt p := (dt_KT_pos hK hp).mpr ⟨s, hs, a4⟩
    have hmp : mr1 p = mr p := (hM p hp hkp).1
    simp only [dt_room, dm_room, hx, hx1, hxs, a5, a6, hmp, if_true]
  · have hx1 : ¬ dt_ms hd x = false := fun q => hx ((dt_hd_ms hH x).mpr q)
    rw [show dt_room (made, n, st, sz, mr, kt, nb, sl, dp, pc, rt) x = -1 from if_neg (fun q => hx q), show dm_room (hd, pc1, rt1, par, st, sz, mr1, nb, made, gg) x = -1 from if_neg (fun q => hx1 q)]
theorem dt_Rel_descends {σ : dt_S0} {τ : dt_S1} (h : dt_Rel σ τ) (x y : Int32) : dt_descends σ x y = dm_descends τ x y := by
  obtain ⟨made, n, st, sz, mr, kt, nb, sl, dp, pc, rt⟩ := σ
  obtain ⟨hd, pc1, rt1, par, st1, sz1, mr1, nb1, made1, gg⟩ := τ
  obtain ⟨rfl, rfl, rfl, rfl, hH, hK, hM, ⟨hn, S, P, hR⟩, hW⟩ := dt_Rel_el h
  by_cases hx : dt_hd pc x = true
  · by_cases hy : dt_hd pc y = true
    · have hx1 := (dt_hd_ms hH x).mp hx
      have hy1 := (dt_hd_ms hH y).mp hy
      obtain ⟨s, p, hs, rfl, hxs, a1, -⟩ := dt_held hH hx
      obtain ⟨t, p2, ht, rfl, hyt, b1, -⟩ := dt_held hH hy
      obtain ⟨i, hi, hSi, hpl⟩ := dt_Rw_slot hR hs a1
      obtain ⟨k, hk, hSk, hpk⟩ := dt_Rw_slot hR ht b1
      have hE := dt_Rw_En hn hR hi
      simp only [dt_descends, dm_descends, hx, hy, hx1, hy1, hyt, and_self, if_true, hpl, hpk]
      have hb := dt_bl_ok hR hi k hk 16 (by omega)
      rw [hSi, hSk, dt_Dn_En hE hk] at hb
      by_cases hc : i < k ∧ k < dt_end dp n i
      · rw [if_pos hc, hb.mpr hc]; rfl
      · have : dt_bl par (nI s) 16 (par t) = false := by
          cases q : dt_bl par (nI s) 16 (par t) with
          | false => rfl
          | true => exact absurd (hb.mp q) hc
        rw [if_neg hc, this]; rfl
    · have hy1 : ¬ dt_ms hd y = false := fun q => hy ((dt_hd_ms hH y).mpr q)
      rw [show dt_descends (made, n, st, sz, mr, kt, nb, sl, dp, pc, rt) x y = -1 from if_neg (fun q => hy q.2), show dm_descends (hd, pc1, rt1, par, st, sz, mr1, nb, made, gg) x y = -1 from if_neg (fun q => hy1 q.2)]
  · have hx1 : ¬ dt_ms hd x = false := fun q => hx ((dt_hd_ms hH x).mpr q)
    rw [show dt_descends (made, n, st, sz, mr, kt, nb, sl, dp, pc, rt) x y = -1 from if_neg (fun q => hx q.1), show dm_descends (hd, pc1, rt1, par, st, sz, mr1, nb, made, gg) x y = -1 from if_neg (fun q => hx1 q.1)]
theorem dt_Rel_descendants {σ : dt_S0} {τ : dt_S1} (h : dt_Rel σ τ) (x : Int32) : dt_descendants σ x = dm_descendants τ x := by
  obtain ⟨made, n, st, sz, mr, kt, nb, sl, dp, pc, rt⟩ := σ
  obtain ⟨hd, pc1, rt1, par, st1, sz1, mr1, nb1, made1, gg⟩ := τ
  obtain ⟨rfl, rfl, rfl, rfl, hH, hK, hM, ⟨hn, S, P, hR⟩, hW⟩ := dt_Rel_el h
  by_cases hx : dt_hd pc x = true
  · have hx1 := (dt_hd_ms hH x).mp hx
    obtain ⟨s, p, hs, rfl, hxs, a1, -⟩ := dt_held hH hx
    obtain ⟨i, hi, hSi, hpl⟩ := dt_Rw_slot hR hs a1
    have hE := dt_Rw_En hn hR hi
    simp only [dt_descendants, dm_descendants, hx, hx1, if_true, hpl]
    rw [dt_dc_eq, Int32.zero_add]
    congr 1
    have c1 := dt_cn_congr (Q := fun j => !decide (hd j = 0) && dt_bl par (nI s) 16 (par j)) (Q' := fun j => decide (hd j = 1) && dt_bl par (nI s) 16 (par j)) 16 0 (fun j _ hj => by
      show (!decide (hd j = 0) && dt_bl par (nI s) 16 (par j)) = (decide (hd j = 1) && dt_bl par (nI s) 16 (par j))
      rcases hH j (by omega) with ⟨q, -⟩ | ⟨q, -⟩
      · rw [q]; rfl
      · rw [q]; rfl)
    rw [c1, dt_Rw_cn hR (fun j => dt_bl par (nI s) 16 (par j)), ← dt_cn_between i (dt_end dp n i) n hE.1 hE.2.1]
    refine dt_cn_congr n 0 (fun k _ hk => ?_)
    show decide (i < k ∧ k < dt_end dp n i) = dt_bl par (nI s) 16 (par (S k))
    rw [Bool.eq_iff_iff, decide_eq_true_eq, ← hSi, dt_bl_ok hR hi k (by omega) 16 (by omega), dt_Dn_En hE (by omega)]
  · have hx1 : ¬ dt_ms hd x = false := fun q => hx ((dt_hd_ms hH x).mpr q)
    rw [show dt_descendants (made, n, st, sz, mr, kt, nb, sl, dp, pc, rt) x = -1 from if_neg (fun q => hx q), show dm_descendants (hd, pc1, rt1, par, st, sz, mr1, nb, made, gg) x = -1 from if_neg (fun q => hx1 q)]
theorem dt_Rel_keys {σ : dt_S0} {τ : dt_S1} (h : dt_Rel σ τ) : dt_keys σ = dm_keys τ := by
  obtain ⟨made, n, st, sz, mr, kt, nb, sl, dp, pc, rt⟩ := σ
  obtain ⟨hd, pc1, rt1, par, st1, sz1, mr1, nb1, made1, gg⟩ := τ
  obtain ⟨rfl, rfl, rfl, rfl, hH, hK, hM, ⟨hn, S, P, hR⟩, hW⟩ := dt_Rel_el h
  show nI n = dt_ky hd 16 0 0
  rw [dt_ky_eq, Int32.zero_add]
  congr 1
  have c1 := dt_cn_congr (Q := fun j => !decide (hd j = 0)) (Q' := fun j => decide (hd j = 1) && true) 16 0 (fun j _ hj => by
    show (!decide (hd j = 0)) = (decide (hd j = 1) && true)
    rcases hH j (by omega) with ⟨q, -⟩ | ⟨q, -⟩
    · rw [q]; rfl
    · rw [q]; rfl)
  have c2 := dt_Rw_cn hR (fun _ => true)
  rw [dt_cn_true] at c2
  exact (c1.trans c2).symm
theorem dt_Rel_init : dt_Rel dt_i0 dt_i1 := by
  have hng : ∀ s, s < 16 → upd (dt_ng 16 0 (fun _ => 0)) 0 0 s = if s = 0 then 0 else -1 := by
    intro s hs
    by_cases h : s = 0
    · subst h; rw [pk_us, if_pos rfl]
    · rw [pk_un h, dt_ng_eq, if_pos (by omega), if_neg h]
  refine dt_Rel_mk rfl rfl rfl rfl ?_ ?_ ?_ ⟨by omega, fun _ => 0, fun _ => 0, ?_, ?_, ?_, ?_, ?_, ?_⟩ ?_
  · intro s hs
    rw [hng s hs]
    by_cases h : s = 0
    · subst h
      exact Or.inl ⟨rfl, rfl, rfl, 0, by omega, rfl⟩
    · rw [pk_un h, if_neg h]
      exact Or.inr ⟨rfl, rfl⟩
  · intro p hp
    have c1 := dt_cn_congr (Q := fun s => decide (upd (dt_ng 16 0 (fun _ => 0)) 0 0 s = nI p)) (Q' := fun s => decide (s = 0 ∧ p = 0)) 16 0 (fun s _ hs => by
      show decide (upd (dt_ng 16 0 (fun _ => 0)) 0 0 s = nI p) = decide (s = 0 ∧ p = 0)
      rw [hng s (by omega)]
      by_cases h : s = 0
      · rw [if_pos h]
        have : (0 : Int32) = nI p ↔ p = 0 := by
          rw [show (0 : Int32) = nI 0 from rfl, nI_eq (by omega) (by omega)]
          exact eq_comm
        simp only [this, h, true_and]
      · rw [if_neg h]
        have : ¬ (-1 : Int32) = nI p := fun e => dt_m1_ne (by omega) e.symm
        simp only [this, h, false_and])
    rw [c1]
    by_cases h : p = 0
    · subst h; decide
    · rw [pk_un h]
      have : dt_cn (fun s => decide (s = 0 ∧ p = 0)) 16 0 = 0 := (dt_cn_zero 16 0).mpr (fun j _ _ => by simp only [h, and_false, decide_false])
      rw [this]; rfl
  · intro p hp h0
    by_cases h : p = 0
    · subst h; decide
    · rw [pk_un h] at h0
      exact absurd h0 (by decide)
  · intro k hk
    have : k = 0 := by omega
    subst this
    exact ⟨rfl, (by decide : 0 < 16), rfl⟩
  · intro j k hj hk _
    omega
  · intro s hs hh
    by_cases h : s = 0
    · exact ⟨0, by omega, h.symm⟩
    · rw [pk_un h] at hh
      exact absurd hh (by decide)
  · intro k hk
    rfl
  · exact ⟨fun _ => rfl, fun k hk => by omega⟩
  · intro k hk
    have : k = 0 := by omega
    subst this
    exact Or.inl ⟨fun j hj => by omega, rfl⟩
  · intro s hs
    refine ⟨⟨0, by omega, rfl⟩, ?_⟩
    by_cases h : s = 0
    · subst h; exact Or.inl rfl
    · rw [pk_un h]
      exact Or.inr ⟨0, by omega, rfl⟩
/-! what the walks need of a state -/
def dt_W0 (σ : dt_S0) : Prop := match σ with
  | (_, n, _, _, _, _, _, sl, _, pc, _) => n ≤ 16 ∧ (∀ s, s < 16 → pc s = -1 ∨ ∃ p, p < 16 ∧ pc s = nI p) ∧ (∀ s, s < 16 → pc s < 0 → n < 16) ∧ ∃ S : Nat → Nat, (∀ k, k < n → sl k = nI (S k) ∧ S k < 16 ∧ ¬ pc (S k) < 0) ∧ (∀ j k, j < n → k < n → S j = S k → j = k) ∧ (∀ s, s < 16 → ¬ pc s < 0 → ∃ k, k < n ∧ S k = s)
def dt_W1 (τ : dt_S1) : Prop := dt_Wf1 τ.2.1 τ.2.2.2.1
theorem dt_Rel_W {σ : dt_S0} {τ : dt_S1} (h : dt_Rel σ τ) : dt_W0 σ ∧ dt_W1 τ := by
  obtain ⟨made, n, st, sz, mr, kt, nb, sl, dp, pc, rt⟩ := σ
  obtain ⟨hd, pc1, rt1, par, st1, sz1, mr1, nb1, made1, gg⟩ := τ
  obtain ⟨rfl, rfl, rfl, rfl, hH, hK, hM, ⟨hn, S, P, hR⟩, hW⟩ := dt_Rel_el h
  have hneg : ∀ s, s < 16 → (¬ pc s < 0 ↔ hd s = 1) := fun s hs => by
    rcases hH s hs with ⟨q1, -, -, p, hp, q2⟩ | ⟨q1, q2⟩
    · rw [q1, q2]
      exact ⟨fun _ => rfl, fun _ => nI_pos (by omega)⟩
    · rw [q1, q2]
      exact ⟨fun q => absurd dt_m1 q, fun q => absurd q (by decide)⟩
  refine ⟨⟨hn, fun s hs => ?_, fun s hs q => ?_, S, fun k hk => ?_, hR.2.1, fun s hs q => hR.2.2.1 s hs ((hneg s hs).mp q)⟩, hW⟩
  · rcases hH s hs with ⟨-, -, -, q⟩ | ⟨-, q⟩
    · exact Or.inr q
    · exact Or.inl q
  · rcases hH s hs with ⟨-, -, -, p, hp, q2⟩ | ⟨q1, -⟩
    · rw [q2] at q
      exact absurd q (nI_pos (by omega))
    · exact dt_Rw_n hR hs q1
  · obtain ⟨q1, q2, q3⟩ := hR.1 k hk
    exact ⟨q1, q2, (hneg _ q2).mpr q3⟩
end
section
-- ===== PART A: goes FIRST, ahead of the names: the tables' words, and 'selects' of the private methods out of them =====
/-- a private method of a class that the tables say can be made, by its rows of tables_1 -/
def lw_okq (q : MethodName × Nat) : Prop := (q.1.cls ≠ "java/lang/invoke/MethodHandle" ∧ q.1.cls ≠ "java/lang/invoke/VarHandle") ∧ Cond.instantiable q.1.cls q.2 ∈ tables_1 ∧ Cond.privateMethod q.1 ∈ tables_1 ∧ Cond.instanceMethod q.1 ∈ tables_1
set_option maxRecDepth 100000
theorem lw_t1 {w : Cond} (h : w ∈ tables_1_1) : w ∈ tables_1 := List.mem_append_left _ h
theorem lw_t2 {w : Cond} (h : w ∈ tables_1_2) : w ∈ tables_1 := List.mem_append_right _ h
theorem lw_p0 : lw_okq (⟨"DeriveTree", "isHeld", "(I)Z"⟩, 11) := ⟨⟨by decide +kernel, by decide +kernel⟩, lw_t1 (List.mem_of_getElem? (i := 4) rfl), lw_t1 (List.mem_of_getElem? (i := 51) rfl), lw_t1 (List.mem_of_getElem? (i := 52) rfl)⟩
theorem lw_p1 : lw_okq (⟨"DeriveTree", "isFree", "(I)Z"⟩, 11) := ⟨⟨by decide +kernel, by decide +kernel⟩, lw_t1 (List.mem_of_getElem? (i := 4) rfl), lw_t1 (List.mem_of_getElem? (i := 55) rfl), lw_t1 (List.mem_of_getElem? (i := 56) rfl)⟩
theorem lw_p2 : lw_okq (⟨"DeriveTree", "freePiece", "()I"⟩, 11) := ⟨⟨by decide +kernel, by decide +kernel⟩, lw_t1 (List.mem_of_getElem? (i := 4) rfl), lw_t1 (List.mem_of_getElem? (i := 59) rfl), lw_t1 (List.mem_of_getElem? (i := 60) rfl)⟩
theorem lw_p3 : lw_okq (⟨"DeriveTree", "putKey", "(IIII)V"⟩, 11) := ⟨⟨by decide +kernel, by decide +kernel⟩, lw_t1 (List.mem_of_getElem? (i := 4) rfl), lw_t1 (List.mem_of_getElem? (i := 63) rfl), lw_t1 (List.mem_of_getElem? (i := 64) rfl)⟩
theorem lw_p4 : lw_okq (⟨"DeriveTree", "placeOf", "(I)I"⟩, 11) := ⟨⟨by decide +kernel, by decide +kernel⟩, lw_t1 (List.mem_of_getElem? (i := 4) rfl), lw_t1 (List.mem_of_getElem? (i := 67) rfl), lw_t1 (List.mem_of_getElem? (i := 68) rfl)⟩
theorem lw_p5 : lw_okq (⟨"DeriveTree", "endOfPart", "(I)I"⟩, 11) := ⟨⟨by decide +kernel, by decide +kernel⟩, lw_t1 (List.mem_of_getElem? (i := 4) rfl), lw_t1 (List.mem_of_getElem? (i := 83) rfl), lw_t1 (List.mem_of_getElem? (i := 84) rfl)⟩
theorem lw_p6 : lw_okq (⟨"DeriveTree", "forgetKey", "(I)V"⟩, 11) := ⟨⟨by decide +kernel, by decide +kernel⟩, lw_t1 (List.mem_of_getElem? (i := 4) rfl), lw_t1 (List.mem_of_getElem? (i := 87) rfl), lw_t1 (List.mem_of_getElem? (i := 88) rfl)⟩
theorem lw_p7 : lw_okq (⟨"DeriveTree", "cutRow", "(II)V"⟩, 11) := ⟨⟨by decide +kernel, by decide +kernel⟩, lw_t1 (List.mem_of_getElem? (i := 4) rfl), lw_t1 (List.mem_of_getElem? (i := 91) rfl), lw_t1 (List.mem_of_getElem? (i := 92) rfl)⟩
theorem lw_p8 : lw_okq (⟨"DeriveTree", "resetMarks", "()V"⟩, 11) := ⟨⟨by decide +kernel, by decide +kernel⟩, lw_t1 (List.mem_of_getElem? (i := 4) rfl), lw_t1 (List.mem_of_getElem? (i := 95) rfl), lw_t1 (List.mem_of_getElem? (i := 96) rfl)⟩
theorem lw_p9 : lw_okq (⟨"DeriveTree", "holdsOthers", "(I)Z"⟩, 11) := ⟨⟨by decide +kernel, by decide +kernel⟩, lw_t1 (List.mem_of_getElem? (i := 4) rfl), lw_t1 (List.mem_of_getElem? (i := 99) rfl), lw_t1 (List.mem_of_getElem? (i := 100) rfl)⟩
theorem lw_p10 : lw_okq (⟨"DeriveTreeModel", "missing", "(I)Z"⟩, 10) := ⟨⟨by decide +kernel, by decide +kernel⟩, lw_t1 (List.mem_of_getElem? (i := 131) rfl), lw_t1 (List.mem_of_getElem? (i := 173) rfl), lw_t1 (List.mem_of_getElem? (i := 174) rfl)⟩
theorem lw_p11 : lw_okq (⟨"DeriveTreeModel", "taken", "(I)Z"⟩, 10) := ⟨⟨by decide +kernel, by decide +kernel⟩, lw_t1 (List.mem_of_getElem? (i := 131) rfl), lw_t1 (List.mem_of_getElem? (i := 177) rfl), lw_t1 (List.mem_of_getElem? (i := 178) rfl)⟩
theorem lw_p12 : lw_okq (⟨"DeriveTreeModel", "there", "(I)Z"⟩, 10) := ⟨⟨by decide +kernel, by decide +kernel⟩, lw_t1 (List.mem_of_getElem? (i := 131) rfl), lw_t1 (List.mem_of_getElem? (i := 181) rfl), lw_t1 (List.mem_of_getElem? (i := 182) rfl)⟩
theorem lw_p13 : lw_okq (⟨"DeriveTreeModel", "hold", "(IIII)V"⟩, 10) := ⟨⟨by decide +kernel, by decide +kernel⟩, lw_t1 (List.mem_of_getElem? (i := 131) rfl), lw_t1 (List.mem_of_getElem? (i := 185) rfl), lw_t1 (List.mem_of_getElem? (i := 186) rfl)⟩
theorem lw_p14 : lw_okq (⟨"DeriveTreeModel", "hand", "(II)I"⟩, 10) := ⟨⟨by decide +kernel, by decide +kernel⟩, lw_t1 (List.mem_of_getElem? (i := 131) rfl), lw_t1 (List.mem_of_getElem? (i := 197) rfl), lw_t1 (List.mem_of_getElem? (i := 198) rfl)⟩
theorem lw_p15 : lw_okq (⟨"DeriveTreeModel", "settle", "()V"⟩, 10) := ⟨⟨by decide +kernel, by decide +kernel⟩, lw_t1 (List.mem_of_getElem? (i := 131) rfl), lw_t1 (List.mem_of_getElem? (i := 205) rfl), lw_t1 (List.mem_of_getElem? (i := 206) rfl)⟩
def lw_privs_1 : List (MethodName × Nat) := [(⟨"DeriveTree", "isHeld", "(I)Z"⟩, 11), (⟨"DeriveTree", "isFree", "(I)Z"⟩, 11), (⟨"DeriveTree", "freePiece", "()I"⟩, 11), (⟨"DeriveTree", "putKey", "(IIII)V"⟩, 11), (⟨"DeriveTree", "placeOf", "(I)I"⟩, 11), (⟨"DeriveTree", "endOfPart", "(I)I"⟩, 11), (⟨"DeriveTree", "forgetKey", "(I)V"⟩, 11), (⟨"DeriveTree", "cutRow", "(II)V"⟩, 11), (⟨"DeriveTree", "resetMarks", "()V"⟩, 11), (⟨"DeriveTree", "holdsOthers", "(I)Z"⟩, 11), (⟨"DeriveTreeModel", "missing", "(I)Z"⟩, 10), (⟨"DeriveTreeModel", "taken", "(I)Z"⟩, 10), (⟨"DeriveTreeModel", "there", "(I)Z"⟩, 10), (⟨"DeriveTreeModel", "hold", "(IIII)V"⟩, 10), (⟨"DeriveTreeModel", "hand", "(II)I"⟩, 10), (⟨"DeriveTreeModel", "settle", "()V"⟩, 10)]
theorem lw_r1 : ∀ q ∈ lw_privs_1, lw_okq q := List.forall_mem_cons.mpr ⟨lw_p0, List.forall_mem_cons.mpr ⟨lw_p1, List.forall_mem_cons.mpr ⟨lw_p2, List.forall_mem_cons.mpr ⟨lw_p3, List.forall_mem_cons.mpr ⟨lw_p4, List.forall_mem_cons.mpr ⟨lw_p5, List.forall_mem_cons.mpr ⟨lw_p6, List.forall_mem_cons.mpr ⟨lw_p7, List.forall_mem_cons.mpr ⟨lw_p8, List.forall_mem_cons.mpr ⟨lw_p9, List.forall_mem_cons.mpr ⟨lw_p10, List.forall_mem_cons.mpr ⟨lw_p11, List.forall_mem_cons.mpr ⟨lw_p12, List.forall_mem_cons.mpr ⟨lw_p13, List.forall_mem_cons.mpr ⟨lw_p14, List.forall_mem_cons.mpr ⟨lw_p15, fun _ h => absurd h List.not_mem_nil⟩⟩⟩⟩⟩⟩⟩⟩⟩⟩⟩⟩⟩⟩⟩⟩
theorem lw_p16 : lw_okq (⟨"DeriveTreeModel", "lies", "(II)Z"⟩, 10) := ⟨⟨by decide +kernel, by decide +kernel⟩, lw_t1 (List.mem_of_getElem? (i := 131) rfl), lw_t1 (List.mem_of_getElem? (i := 209) rfl), lw_t1 (List.mem_of_getElem? (i := 210) rfl)⟩
theorem lw_p17 : lw_okq (⟨"DeriveTreeModel", "below", "(II)Z"⟩, 10) := ⟨⟨by decide +kernel, by decide +kernel⟩, lw_t1 (List.mem_of_getElem? (i := 131) rfl), lw_t1 (List.mem_of_getElem? (i := 217) rfl), lw_t1 (List.mem_of_getElem? (i := 218) rfl)⟩
def lw_privs_2 : List (MethodName × Nat) := [(⟨"DeriveTreeModel", "lies", "(II)Z"⟩, 10), (⟨"DeriveTreeModel", "below", "(II)Z"⟩, 10)]
theorem lw_r2 : ∀ q ∈ lw_privs_2, lw_okq q := List.forall_mem_cons.mpr ⟨lw_p16, List.forall_mem_cons.mpr ⟨lw_p17, fun _ h => absurd h List.not_mem_nil⟩⟩
def lw_privs : List (MethodName × Nat) := lw_privs_1 ++ (lw_privs_2)
def lw_tbl : List Cond := k2_sels lw_privs ++ tables_1
theorem lw_privs_ok : ∀ q ∈ lw_privs, lw_okq q := by
  show ∀ q ∈ lw_privs_1 ++ (lw_privs_2), lw_okq q
  exact List.forall_mem_append.mpr ⟨lw_r1, lw_r2⟩
-- ===== ONE list of words for every method: the tables' words that hold all through a run =====
def lw_all : List Cond := lw_tbl.filter goodWord
/-- a word of the tables by its place: claim/WORDS.tsv -/
theorem lw_w {w : Cond} (i : Nat) (h : lw_tbl[i]? = some w) (g : goodWord w = true) : w ∈ lw_all := List.mem_filter.mpr ⟨List.mem_of_getElem? h, g⟩
theorem lw_all_tbl {w : Cond} (h : w ∈ lw_all) : w ∈ lw_tbl := (List.mem_filter.mp h).1
theorem lw_self : GoodIn lw_all lw_all := fun w h => ⟨h, good_of_word (List.mem_filter.mp h).2⟩
/-- a class's field words, by their places -/
theorem lw_in (ws : List Cond) (ps : List Nat) (hp : ws = ps.filterMap (fun i => lw_tbl[i]?)) (hg : ws.all goodWord = true) : ∀ w ∈ ws, w ∈ lw_all := by
  intro w h
  have h1 := List.all_eq_true.mp hg w h
  rw [hp] at h
  obtain ⟨i, -, hi⟩ := List.mem_filterMap.mp h
  exact lw_w i hi h1
/-- the words of a contract for the method y with code b, L locals, answer r -/
abbrev ws_ (y : MethodName) (b : ByteArray) (L : Nat) (r : Option FieldType) : List Cond := Cond.code y b L r :: lw_all
theorem lw_meth {y : MethodName} {b : ByteArray} {L : Nat} {r : Option FieldType} (h : Cond.code y b L r ∈ lw_all) : GoodIn lw_all (ws_ y b L r) := by
  intro w hw
  rcases List.mem_cons.mp hw with e | e
  · rw [e]
    exact lw_self _ h
  · exact lw_self _ e
theorem lw_app {a c : List Cond} (ha : ∀ w ∈ a, w ∈ lw_all) (hc : GoodIn lw_all c) : GoodIn lw_all (a ++ c) := by
  intro w hw
  rcases List.mem_append.mp hw with e | e
  · exact lw_self w (ha w e)
  · exact hc w e
/-- what a call through an object asks: cwV n hts (lw_V ..) -/
theorem lw_V {own : String} {idx : Nat} {C : String} {y : MethodName} {b : ByteArray} {L : Nat} {r : Option FieldType} (h1 : Cond.methodLink own idx y ∈ lw_all) (h2 : Cond.instanceMethod y ∈ lw_all) (h3 : Cond.selects C y y ∈ lw_all) (h4 : Cond.initialized C ∈ lw_all) (h5 : Cond.code y b L r ∈ lw_all) : GoodIn lw_all (wsV own idx C y (ws_ y b L r)) := by
  refine lw_app ?_ (lw_meth h5)
  intro w hw
  simp only [List.mem_cons, List.not_mem_nil, or_false] at hw
  rcases hw with e | e | e | e
  · rw [e]; exact h1
  · rw [e]; exact h2
  · rw [e]; exact h3
  · rw [e]; exact h4
/-- what a static call asks: va_cwS n hts (lw_S ..) -/
theorem lw_S {own : String} {idx : Nat} {y : MethodName} {b : ByteArray} {L : Nat} {r : Option FieldType} (h1 : Cond.methodLink own idx y ∈ lw_all) (h2 : Cond.static y ∈ lw_all) (h3 : Cond.initialized y.cls ∈ lw_all) (h4 : Cond.code y b L r ∈ lw_all) : GoodIn lw_all (va_wsS own idx y (ws_ y b L r)) := by
  refine lw_app ?_ (lw_meth h4)
  intro w hw
  simp only [List.mem_cons, List.not_mem_nil, or_false] at hw
  rcases hw with e | e | e
  · rw [e]; exact h1
  · rw [e]; exact h2
  · rw [e]; exact h3
/-- the words of a contract for a method WITH HANDLERS (hh: its table) -/
abbrev wsW_ (y : MethodName) (b : ByteArray) (L : Nat) (r : Option FieldType) (hh : List (Nat × Nat × Nat × Nat)) : List Cond := Cond.codeWith y b L r hh :: lw_all
theorem lw_methW {y : MethodName} {b : ByteArray} {L : Nat} {r : Option FieldType} {hh : List (Nat × Nat × Nat × Nat)} (h : Cond.codeWith y b L r hh ∈ lw_all) : GoodIn lw_all (wsW_ y b L r hh) := by
  intro w hw
  rcases List.mem_cons.mp hw with e | e
  · rw [e]
    exact lw_self _ h
  · exact lw_self _ e
/-- any list of words by their places (lw_in), good -/
theorem lw_good {ws : List Cond} (h : ∀ w ∈ ws, w ∈ lw_all) : GoodIn lw_all ws := fun w hw => lw_self w (h w hw)
/-- what a call of a method with handlers asks: vx_cwVW n hts (lw_VW ..), vx_cwSW n hts (lw_SW ..) -/
theorem lw_VW {own : String} {idx : Nat} {C : String} {y : MethodName} {b : ByteArray} {L : Nat} {r : Option FieldType} {hh : List (Nat × Nat × Nat × Nat)} (h1 : Cond.methodLink own idx y ∈ lw_all) (h2 : Cond.instanceMethod y ∈ lw_all) (h3 : Cond.selects C y y ∈ lw_all) (h4 : Cond.initialized C ∈ lw_all) (h5 : Cond.codeWith y b L r hh ∈ lw_all) : GoodIn lw_all (wsV own idx C y (wsW_ y b L r hh)) := by
  refine lw_app ?_ (lw_methW h5)
  intro w hw
  simp only [List.mem_cons, List.not_mem_nil, or_false] at hw
  rcases hw with e | e | e | e
  · rw [e]; exact h1
  · rw [e]; exact h2
  · rw [e]; exact h3
  · rw [e]; exact h4
theorem lw_SW {own : String} {idx : Nat} {y : MethodName} {b : ByteArray} {L : Nat} {r : Option FieldType} {hh : List (Nat × Nat × Nat × Nat)} (h1 : Cond.methodLink own idx y ∈ lw_all) (h2 : Cond.static y ∈ lw_all) (h3 : Cond.initialized y.cls ∈ lw_all) (h4 : Cond.codeWith y b L r hh ∈ lw_all) : GoodIn lw_all (va_wsS own idx y (wsW_ y b L r hh)) := by
  refine lw_app ?_ (lw_methW h4)
  intro w hw
  simp only [List.mem_cons, List.not_mem_nil, or_false] at hw
  rcases hw with e | e | e
  · rw [e]; exact h1
  · rw [e]; exact h2
  · rw [e]; exact h3
/-- a word by its place in its run of the tables -/
theorem lw_at {r : List Cond} (hr : ∀ w ∈ r, w ∈ lw_tbl) {w : Cond} (i : Nat) (h : r[i]? = some w) : w ∈ lw_tbl := hr w (List.mem_of_getElem? h)
theorem lw_g {w : Cond} (h : w ∈ lw_tbl) (g : goodWord w = true) : w ∈ lw_all := List.mem_filter.mpr ⟨h, g⟩
theorem lw_ms : ∀ w ∈ k2_sels lw_privs, w ∈ lw_tbl := fun w h => show w ∈ k2_sels lw_privs ++ tables_1 from List.mem_append_left _ h
theorem lw_m1 : ∀ w ∈ tables_1_1, w ∈ lw_tbl := fun w h => show w ∈ k2_sels lw_privs ++ tables_1 from List.mem_append_right (k2_sels lw_privs) (show w ∈ tables_1 from List.mem_append_left _ h)
theorem lw_m2 : ∀ w ∈ tables_1_2, w ∈ lw_tbl := fun w h => show w ∈ k2_sels lw_privs ++ tables_1 from List.mem_append_right (k2_sels lw_privs) (show w ∈ tables_1 from List.mem_append_right _ h)
theorem qs0 : (Cond.selects "DeriveTree" ⟨"DeriveTree", "isHeld", "(I)Z"⟩ ⟨"DeriveTree", "isHeld", "(I)Z"⟩) ∈ lw_all := lw_g (lw_at lw_ms 0 rfl) rfl
theorem qs1 : (Cond.selects "DeriveTree" ⟨"DeriveTree", "isFree", "(I)Z"⟩ ⟨"DeriveTree", "isFree", "(I)Z"⟩) ∈ lw_all := lw_g (lw_at lw_ms 1 rfl) rfl
theorem qs2 : (Cond.selects "DeriveTree" ⟨"DeriveTree", "freePiece", "()I"⟩ ⟨"DeriveTree", "freePiece", "()I"⟩) ∈ lw_all := lw_g (lw_at lw_ms 2 rfl) rfl
theorem qs3 : (Cond.selects "DeriveTree" ⟨"DeriveTree", "putKey", "(IIII)V"⟩ ⟨"DeriveTree", "putKey", "(IIII)V"⟩) ∈ lw_all := lw_g (lw_at lw_ms 3 rfl) rfl
theorem qs4 : (Cond.selects "DeriveTree" ⟨"DeriveTree", "placeOf", "(I)I"⟩ ⟨"DeriveTree", "placeOf", "(I)I"⟩) ∈ lw_all := lw_g (lw_at lw_ms 4 rfl) rfl
theorem qs5 : (Cond.selects "DeriveTree" ⟨"DeriveTree", "endOfPart", "(I)I"⟩ ⟨"DeriveTree", "endOfPart", "(I)I"⟩) ∈ lw_all := lw_g (lw_at lw_ms 5 rfl) rfl
theorem qs6 : (Cond.selects "DeriveTree" ⟨"DeriveTree", "forgetKey", "(I)V"⟩ ⟨"DeriveTree", "forgetKey", "(I)V"⟩) ∈ lw_all := lw_g (lw_at lw_ms 6 rfl) rfl
theorem qs7 : (Cond.selects "DeriveTree" ⟨"DeriveTree", "cutRow", "(II)V"⟩ ⟨"DeriveTree", "cutRow", "(II)V"⟩) ∈ lw_all := lw_g (lw_at lw_ms 7 rfl) rfl
theorem qs8 : (Cond.selects "DeriveTree" ⟨"DeriveTree", "resetMarks", "()V"⟩ ⟨"DeriveTree", "resetMarks", "()V"⟩) ∈ lw_all := lw_g (lw_at lw_ms 8 rfl) rfl
theorem qs9 : (Cond.selects "DeriveTree" ⟨"DeriveTree", "holdsOthers", "(I)Z"⟩ ⟨"DeriveTree", "holdsOthers", "(I)Z"⟩) ∈ lw_all := lw_g (lw_at lw_ms 9 rfl) rfl
theorem qs10 : (Cond.selects "DeriveTreeModel" ⟨"DeriveTreeModel", "missing", "(I)Z"⟩ ⟨"DeriveTreeModel", "missing", "(I)Z"⟩) ∈ lw_all := lw_g (lw_at lw_ms 10 rfl) rfl
theorem qs11 : (Cond.selects "DeriveTreeModel" ⟨"DeriveTreeModel", "taken", "(I)Z"⟩ ⟨"DeriveTreeModel", "taken", "(I)Z"⟩) ∈ lw_all := lw_g (lw_at lw_ms 11 rfl) rfl
theorem qs12 : (Cond.selects "DeriveTreeModel" ⟨"DeriveTreeModel", "there", "(I)Z"⟩ ⟨"DeriveTreeModel", "there", "(I)Z"⟩) ∈ lw_all := lw_g (lw_at lw_ms 12 rfl) rfl
theorem qs13 : (Cond.selects "DeriveTreeModel" ⟨"DeriveTreeModel", "hold", "(IIII)V"⟩ ⟨"DeriveTreeModel", "hold", "(IIII)V"⟩) ∈ lw_all := lw_g (lw_at lw_ms 13 rfl) rfl
theorem qs14 : (Cond.selects "DeriveTreeModel" ⟨"DeriveTreeModel", "hand", "(II)I"⟩ ⟨"DeriveTreeModel", "hand", "(II)I"⟩) ∈ lw_all := lw_g (lw_at lw_ms 14 rfl) rfl
theorem qs15 : (Cond.selects "DeriveTreeModel" ⟨"DeriveTreeModel", "settle", "()V"⟩ ⟨"DeriveTreeModel", "settle", "()V"⟩) ∈ lw_all := lw_g (lw_at lw_ms 15 rfl) rfl
theorem qs16 : (Cond.selects "DeriveTreeModel" ⟨"DeriveTreeModel", "lies", "(II)Z"⟩ ⟨"DeriveTreeModel", "lies", "(II)Z"⟩) ∈ lw_all := lw_g (lw_at lw_ms 16 rfl) rfl
theorem qs17 : (Cond.selects "DeriveTreeModel" ⟨"DeriveTreeModel", "below", "(II)Z"⟩ ⟨"DeriveTreeModel", "below", "(II)Z"⟩) ∈ lw_all := lw_g (lw_at lw_ms 17 rfl) rfl
end
section
set_option maxRecDepth 100000
/-! java/lang/Object -/
def RJ0 : String := "java/lang/Object"
abbrev cJ0_init : ByteArray := object_method_1_code
def yJ0_init : MethodName := ⟨RJ0, "<init>", "()V"⟩
theorem dJ0_init_0 : decode cJ0_init 0 = .ok (.return_, 1) := by decide +kernel
theorem q27 : (Jvm.Cond.instanceMethod ({ cls := "java/lang/Object", name := "<init>", desc := "()V" } : Jvm.MethodName)) ∈ lw_all := lw_g (lw_at lw_m1 9 rfl) rfl
theorem q28 : (Jvm.Cond.code ({ cls := "java/lang/Object", name := "<init>", desc := "()V" } : Jvm.MethodName) object_method_1_code (1 : Nat) (Option.none : Option Jvm.ClassFile.FieldType)) ∈ lw_all := lw_g (lw_at lw_m1 10 rfl) rfl
theorem q18 : (Jvm.Cond.initialized "DeriveTreeLaw") ∈ lw_all := lw_g (lw_at lw_m1 0 rfl) rfl
theorem q21 : (Jvm.Cond.classLink "DeriveTreeLaw" (7 : Nat) "DeriveTree") ∈ lw_all := lw_g (lw_at lw_m1 3 rfl) rfl
theorem q23 : (Jvm.Cond.methodLink "DeriveTreeLaw" (9 : Nat) ({ cls := "DeriveTree", name := "<init>", desc := "()V" } : Jvm.MethodName)) ∈ lw_all := lw_g (lw_at lw_m1 5 rfl) rfl
theorem q64 : (Jvm.Cond.methodLink "DeriveTreeLaw" (13 : Nat) ({ cls := "DeriveTree", name := "split", desc := "(III)I" } : Jvm.MethodName)) ∈ lw_all := lw_g (lw_at lw_m1 46 rfl) rfl
theorem q88 : (Jvm.Cond.methodLink "DeriveTreeLaw" (18 : Nat) ({ cls := "DeriveTree", name := "copy", desc := "(III)I" } : Jvm.MethodName)) ∈ lw_all := lw_g (lw_at lw_m1 70 rfl) rfl
theorem q92 : (Jvm.Cond.methodLink "DeriveTreeLaw" (22 : Nat) ({ cls := "DeriveTree", name := "move", desc := "(II)I" } : Jvm.MethodName)) ∈ lw_all := lw_g (lw_at lw_m1 74 rfl) rfl
theorem q96 : (Jvm.Cond.methodLink "DeriveTreeLaw" (27 : Nat) ({ cls := "DeriveTree", name := "delete", desc := "(I)I" } : Jvm.MethodName)) ∈ lw_all := lw_g (lw_at lw_m1 78 rfl) rfl
theorem q120 : (Jvm.Cond.methodLink "DeriveTreeLaw" (32 : Nat) ({ cls := "DeriveTree", name := "revoke", desc := "(I)I" } : Jvm.MethodName)) ∈ lw_all := lw_g (lw_at lw_m1 102 rfl) rfl
theorem q124 : (Jvm.Cond.methodLink "DeriveTreeLaw" (36 : Nat) ({ cls := "DeriveTree", name := "piece", desc := "(I)I" } : Jvm.MethodName)) ∈ lw_all := lw_g (lw_at lw_m1 106 rfl) rfl
theorem q128 : (Jvm.Cond.methodLink "DeriveTreeLaw" (40 : Nat) ({ cls := "DeriveTree", name := "rights", desc := "(I)I" } : Jvm.MethodName)) ∈ lw_all := lw_g (lw_at lw_m1 110 rfl) rfl
theorem q132 : (Jvm.Cond.methodLink "DeriveTreeLaw" (44 : Nat) ({ cls := "DeriveTree", name := "room", desc := "(I)I" } : Jvm.MethodName)) ∈ lw_all := lw_g (lw_at lw_m1 114 rfl) rfl
theorem q136 : (Jvm.Cond.methodLink "DeriveTreeLaw" (48 : Nat) ({ cls := "DeriveTree", name := "descends", desc := "(II)I" } : Jvm.MethodName)) ∈ lw_all := lw_g (lw_at lw_m1 118 rfl) rfl
theorem q140 : (Jvm.Cond.methodLink "DeriveTreeLaw" (52 : Nat) ({ cls := "DeriveTree", name := "descendants", desc := "(I)I" } : Jvm.MethodName)) ∈ lw_all := lw_g (lw_at lw_m1 122 rfl) rfl
theorem q144 : (Jvm.Cond.methodLink "DeriveTreeLaw" (56 : Nat) ({ cls := "DeriveTree", name := "keys", desc := "()I" } : Jvm.MethodName)) ∈ lw_all := lw_g (lw_at lw_m1 126 rfl) rfl
theorem q148 : (Jvm.Cond.classLink "DeriveTreeLaw" (10 : Nat) "DeriveTreeModel") ∈ lw_all := lw_g (lw_at lw_m1 130 rfl) rfl
theorem q150 : (Jvm.Cond.methodLink "DeriveTreeLaw" (12 : Nat) ({ cls := "DeriveTreeModel", name := "<init>", desc := "()V" } : Jvm.MethodName)) ∈ lw_all := lw_g (lw_at lw_m1 132 rfl) rfl
theorem q186 : (Jvm.Cond.methodLink "DeriveTreeLaw" (17 : Nat) ({ cls := "DeriveTreeModel", name := "split", desc := "(III)I" } : Jvm.MethodName)) ∈ lw_all := lw_g (lw_at lw_m1 168 rfl) rfl
theorem q206 : (Jvm.Cond.methodLink "DeriveTreeLaw" (21 : Nat) ({ cls := "DeriveTreeModel", name := "copy", desc := "(III)I" } : Jvm.MethodName)) ∈ lw_all := lw_g (lw_at lw_m1 188 rfl) rfl
theorem q210 : (Jvm.Cond.methodLink "DeriveTreeLaw" (26 : Nat) ({ cls := "DeriveTreeModel", name := "move", desc := "(II)I" } : Jvm.MethodName)) ∈ lw_all := lw_g (lw_at lw_m1 192 rfl) rfl
theorem q218 : (Jvm.Cond.methodLink "DeriveTreeLaw" (31 : Nat) ({ cls := "DeriveTreeModel", name := "delete", desc := "(I)I" } : Jvm.MethodName)) ∈ lw_all := lw_g (lw_at lw_m1 200 rfl) rfl
theorem q230 : (Jvm.Cond.methodLink "DeriveTreeLaw" (35 : Nat) ({ cls := "DeriveTreeModel", name := "revoke", desc := "(I)I" } : Jvm.MethodName)) ∈ lw_all := lw_g (lw_at lw_m1 212 rfl) rfl
theorem q238 : (Jvm.Cond.methodLink "DeriveTreeLaw" (39 : Nat) ({ cls := "DeriveTreeModel", name := "piece", desc := "(I)I" } : Jvm.MethodName)) ∈ lw_all := lw_g (lw_at lw_m1 220 rfl) rfl
theorem q242 : (Jvm.Cond.methodLink "DeriveTreeLaw" (43 : Nat) ({ cls := "DeriveTreeModel", name := "rights", desc := "(I)I" } : Jvm.MethodName)) ∈ lw_all := lw_g (lw_at lw_m1 224 rfl) rfl
theorem q246 : (Jvm.Cond.methodLink "DeriveTreeLaw" (47 : Nat) ({ cls := "DeriveTreeModel", name := "room", desc := "(I)I" } : Jvm.MethodName)) ∈ lw_all := lw_g (lw_at lw_m1 228 rfl) rfl
theorem q250 : (Jvm.Cond.methodLink "DeriveTreeLaw" (51 : Nat) ({ cls := "DeriveTreeModel", name := "descends", desc := "(II)I" } : Jvm.MethodName)) ∈ lw_all := lw_g (lw_at lw_m1 232 rfl) rfl
theorem q254 : (Jvm.Cond.methodLink "DeriveTreeLaw" (55 : Nat) ({ cls := "DeriveTreeModel", name := "descendants", desc := "(I)I" } : Jvm.MethodName)) ∈ lw_all := lw_g (lw_at lw_m1 236 rfl) rfl
theorem q258 : (Jvm.Cond.methodLink "DeriveTreeLaw" (60 : Nat) ({ cls := "DeriveTreeModel", name := "keys", desc := "()I" } : Jvm.MethodName)) ∈ lw_all := lw_g (lw_at lw_m2 0 rfl) rfl
theorem q63 : (Jvm.Cond.arrayClass Jvm.ClassFile.FieldType.int) ∈ lw_all := lw_g (lw_at lw_m1 45 rfl) rfl
theorem q185 : (Jvm.Cond.arrayClass Jvm.ClassFile.FieldType.boolean) ∈ lw_all := lw_g (lw_at lw_m1 167 rfl) rfl
/-! DeriveTree -/
def RX0 : String := "DeriveTree"
def TX0 : u_T := fun k => match k with
  | 0 => ("DeriveTree", "made", "I", false)
  | 1 => ("DeriveTree", "startOf", "[I", true)
  | 2 => ("DeriveTree", "sizeOf", "[I", true)
  | 3 => ("DeriveTree", "markOf", "[I", true)
  | 4 => ("DeriveTree", "keysTo", "[I", true)
  | 5 => ("DeriveTree", "numberOf", "[I", true)
  | 6 => ("DeriveTree", "keyCount", "I", false)
  | 7 => ("DeriveTree", "slotAt", "[I", true)
  | 8 => ("DeriveTree", "depthAt", "[I", true)
  | 9 => ("DeriveTree", "pieceOf", "[I", true)
  | _ => ("DeriveTree", "rightsOf", "[I", true)
def tyX0 : Nat → FieldType := fun k => match k with
  | 0 => .int
  | 1 => .array .int
  | 2 => .array .int
  | 3 => .array .int
  | 4 => .array .int
  | 5 => .array .int
  | 6 => .int
  | 7 => .array .int
  | 8 => .array .int
  | 9 => .array .int
  | _ => .array .int
abbrev wsX00 : List Cond := u_ws RX0 TX0 11
theorem nmX0 : ∀ a, a < 11 → ∀ b, b < 11 → a ≠ b → (TX0 a).2.1 ≠ (TX0 b).2.1 := by decide +kernel
theorem tyX0_ok : ∀ k, k < 11 → parseFieldDescriptor (TX0 k).2.2.1 = some (tyX0 k) := by decide +kernel
abbrev cX0_init : ByteArray := prog_1_method_1_code
def yX0_init : MethodName := ⟨RX0, "<init>", "()V"⟩
abbrev cX0_split : ByteArray := prog_1_method_2_code
def yX0_split : MethodName := ⟨RX0, "split", "(III)I"⟩
abbrev cX0_isHeld : ByteArray := prog_1_method_13_code
def yX0_isHeld : MethodName := ⟨RX0, "isHeld", "(I)Z"⟩
abbrev cX0_isFree : ByteArray := prog_1_method_14_code
def yX0_isFree : MethodName := ⟨RX0, "isFree", "(I)Z"⟩
abbrev cX0_freePiece : ByteArray := prog_1_method_20_code
def yX0_freePiece : MethodName := ⟨RX0, "freePiece", "()I"⟩
abbrev cX0_putKey : ByteArray := prog_1_method_17_code
def yX0_putKey : MethodName := ⟨RX0, "putKey", "(IIII)V"⟩
abbrev cX0_placeOf : ByteArray := prog_1_method_15_code
def yX0_placeOf : MethodName := ⟨RX0, "placeOf", "(I)I"⟩
abbrev cX0_copy : ByteArray := prog_1_method_3_code
def yX0_copy : MethodName := ⟨RX0, "copy", "(III)I"⟩
abbrev cX0_move : ByteArray := prog_1_method_4_code
def yX0_move : MethodName := ⟨RX0, "move", "(II)I"⟩
abbrev cX0_delete : ByteArray := prog_1_method_5_code
def yX0_delete : MethodName := ⟨RX0, "delete", "(I)I"⟩
abbrev cX0_endOfPart : ByteArray := prog_1_method_16_code
def yX0_endOfPart : MethodName := ⟨RX0, "endOfPart", "(I)I"⟩
abbrev cX0_forgetKey : ByteArray := prog_1_method_18_code
def yX0_forgetKey : MethodName := ⟨RX0, "forgetKey", "(I)V"⟩
abbrev cX0_cutRow : ByteArray := prog_1_method_19_code
def yX0_cutRow : MethodName := ⟨RX0, "cutRow", "(II)V"⟩
abbrev cX0_resetMarks : ByteArray := prog_1_method_21_code
def yX0_resetMarks : MethodName := ⟨RX0, "resetMarks", "()V"⟩
abbrev cX0_holdsOthers : ByteArray := prog_1_method_22_code
def yX0_holdsOthers : MethodName := ⟨RX0, "holdsOthers", "(I)Z"⟩
abbrev cX0_revoke : ByteArray := prog_1_method_6_code
def yX0_revoke : MethodName := ⟨RX0, "revoke", "(I)I"⟩
abbrev cX0_piece : ByteArray := prog_1_method_7_code
def yX0_piece : MethodName := ⟨RX0, "piece", "(I)I"⟩
abbrev cX0_rights : ByteArray := prog_1_method_8_code
def yX0_rights : MethodName := ⟨RX0, "rights", "(I)I"⟩
abbrev cX0_room : ByteArray := prog_1_method_9_code
def yX0_room : MethodName := ⟨RX0, "room", "(I)I"⟩
abbrev cX0_descends : ByteArray := prog_1_method_10_code
def yX0_descends : MethodName := ⟨RX0, "descends", "(II)I"⟩
abbrev cX0_descendants : ByteArray := prog_1_method_11_code
def yX0_descendants : MethodName := ⟨RX0, "descendants", "(I)I"⟩
abbrev cX0_keys : ByteArray := prog_1_method_12_code
def yX0_keys : MethodName := ⟨RX0, "keys", "()I"⟩
theorem q19 : (Jvm.Cond.initialized "DeriveTree") ∈ lw_all := lw_g (lw_at lw_m1 1 rfl) rfl
theorem q22 : (Jvm.Cond.instantiable "DeriveTree" (11 : Nat)) ∈ lw_all := lw_g (lw_at lw_m1 4 rfl) rfl
theorem q24 : (Jvm.Cond.instanceMethod ({ cls := "DeriveTree", name := "<init>", desc := "()V" } : Jvm.MethodName)) ∈ lw_all := lw_g (lw_at lw_m1 6 rfl) rfl
theorem q25 : (Jvm.Cond.code ({ cls := "DeriveTree", name := "<init>", desc := "()V" } : Jvm.MethodName) prog_1_method_1_code (2 : Nat) (Option.none : Option Jvm.ClassFile.FieldType)) ∈ lw_all := lw_g (lw_at lw_m1 7 rfl) rfl
theorem q26 : (Jvm.Cond.methodLink "DeriveTree" (1 : Nat) ({ cls := "java/lang/Object", name := "<init>", desc := "()V" } : Jvm.MethodName)) ∈ lw_all := lw_g (lw_at lw_m1 8 rfl) rfl
theorem q29 : (Jvm.Cond.fieldLink "DeriveTree" (37 : Nat) "DeriveTree" "made" "I") ∈ lw_all := lw_g (lw_at lw_m1 11 rfl) rfl
theorem q30 : (Jvm.Cond.fieldLink "DeriveTree" (7 : Nat) "DeriveTree" "startOf" "[I") ∈ lw_all := lw_g (lw_at lw_m1 12 rfl) rfl
theorem q31 : (Jvm.Cond.fieldLink "DeriveTree" (13 : Nat) "DeriveTree" "sizeOf" "[I") ∈ lw_all := lw_g (lw_at lw_m1 13 rfl) rfl
theorem q32 : (Jvm.Cond.fieldLink "DeriveTree" (16 : Nat) "DeriveTree" "markOf" "[I") ∈ lw_all := lw_g (lw_at lw_m1 14 rfl) rfl
theorem q33 : (Jvm.Cond.fieldLink "DeriveTree" (19 : Nat) "DeriveTree" "keysTo" "[I") ∈ lw_all := lw_g (lw_at lw_m1 15 rfl) rfl
theorem q34 : (Jvm.Cond.fieldLink "DeriveTree" (22 : Nat) "DeriveTree" "numberOf" "[I") ∈ lw_all := lw_g (lw_at lw_m1 16 rfl) rfl
theorem q35 : (Jvm.Cond.fieldLink "DeriveTree" (41 : Nat) "DeriveTree" "keyCount" "I") ∈ lw_all := lw_g (lw_at lw_m1 17 rfl) rfl
theorem q36 : (Jvm.Cond.fieldLink "DeriveTree" (25 : Nat) "DeriveTree" "slotAt" "[I") ∈ lw_all := lw_g (lw_at lw_m1 18 rfl) rfl
theorem q37 : (Jvm.Cond.fieldLink "DeriveTree" (28 : Nat) "DeriveTree" "depthAt" "[I") ∈ lw_all := lw_g (lw_at lw_m1 19 rfl) rfl
theorem q38 : (Jvm.Cond.fieldLink "DeriveTree" (31 : Nat) "DeriveTree" "pieceOf" "[I") ∈ lw_all := lw_g (lw_at lw_m1 20 rfl) rfl
theorem q39 : (Jvm.Cond.fieldLink "DeriveTree" (34 : Nat) "DeriveTree" "rightsOf" "[I") ∈ lw_all := lw_g (lw_at lw_m1 21 rfl) rfl
theorem q40 : (Jvm.Cond.lays "DeriveTree" "DeriveTree" "made" "I") ∈ lw_all := lw_g (lw_at lw_m1 22 rfl) rfl
theorem q41 : (Jvm.Cond.soleField "DeriveTree" "made") ∈ lw_all := lw_g (lw_at lw_m1 23 rfl) rfl
theorem q42 : (Jvm.Cond.laysFinal "DeriveTree" "DeriveTree" "startOf" "[I") ∈ lw_all := lw_g (lw_at lw_m1 24 rfl) rfl
theorem q43 : (Jvm.Cond.soleField "DeriveTree" "startOf") ∈ lw_all := lw_g (lw_at lw_m1 25 rfl) rfl
theorem q44 : (Jvm.Cond.laysFinal "DeriveTree" "DeriveTree" "sizeOf" "[I") ∈ lw_all := lw_g (lw_at lw_m1 26 rfl) rfl
theorem q45 : (Jvm.Cond.soleField "DeriveTree" "sizeOf") ∈ lw_all := lw_g (lw_at lw_m1 27 rfl) rfl
theorem q46 : (Jvm.Cond.laysFinal "DeriveTree" "DeriveTree" "markOf" "[I") ∈ lw_all := lw_g (lw_at lw_m1 28 rfl) rfl
theorem q47 : (Jvm.Cond.soleField "DeriveTree" "markOf") ∈ lw_all := lw_g (lw_at lw_m1 29 rfl) rfl
theorem q48 : (Jvm.Cond.laysFinal "DeriveTree" "DeriveTree" "keysTo" "[I") ∈ lw_all := lw_g (lw_at lw_m1 30 rfl) rfl
theorem q49 : (Jvm.Cond.soleField "DeriveTree" "keysTo") ∈ lw_all := lw_g (lw_at lw_m1 31 rfl) rfl
theorem q50 : (Jvm.Cond.laysFinal "DeriveTree" "DeriveTree" "numberOf" "[I") ∈ lw_all := lw_g (lw_at lw_m1 32 rfl) rfl
theorem q51 : (Jvm.Cond.soleField "DeriveTree" "numberOf") ∈ lw_all := lw_g (lw_at lw_m1 33 rfl) rfl
theorem q52 : (Jvm.Cond.lays "DeriveTree" "DeriveTree" "keyCount" "I") ∈ lw_all := lw_g (lw_at lw_m1 34 rfl) rfl
theorem q53 : (Jvm.Cond.soleField "DeriveTree" "keyCount") ∈ lw_all := lw_g (lw_at lw_m1 35 rfl) rfl
theorem q54 : (Jvm.Cond.laysFinal "DeriveTree" "DeriveTree" "slotAt" "[I") ∈ lw_all := lw_g (lw_at lw_m1 36 rfl) rfl
theorem q55 : (Jvm.Cond.soleField "DeriveTree" "slotAt") ∈ lw_all := lw_g (lw_at lw_m1 37 rfl) rfl
theorem q56 : (Jvm.Cond.laysFinal "DeriveTree" "DeriveTree" "depthAt" "[I") ∈ lw_all := lw_g (lw_at lw_m1 38 rfl) rfl
theorem q57 : (Jvm.Cond.soleField "DeriveTree" "depthAt") ∈ lw_all := lw_g (lw_at lw_m1 39 rfl) rfl
theorem q58 : (Jvm.Cond.laysFinal "DeriveTree" "DeriveTree" "pieceOf" "[I") ∈ lw_all := lw_g (lw_at lw_m1 40 rfl) rfl
theorem q59 : (Jvm.Cond.soleField "DeriveTree" "pieceOf") ∈ lw_all := lw_g (lw_at lw_m1 41 rfl) rfl
theorem q60 : (Jvm.Cond.laysFinal "DeriveTree" "DeriveTree" "rightsOf" "[I") ∈ lw_all := lw_g (lw_at lw_m1 42 rfl) rfl
theorem q61 : (Jvm.Cond.soleField "DeriveTree" "rightsOf") ∈ lw_all := lw_g (lw_at lw_m1 43 rfl) rfl
theorem q62 : (Jvm.Cond.superclass "DeriveTree" "java/lang/Object") ∈ lw_all := lw_g (lw_at lw_m1 44 rfl) rfl
theorem q65 : (Jvm.Cond.instanceMethod ({ cls := "DeriveTree", name := "split", desc := "(III)I" } : Jvm.MethodName)) ∈ lw_all := lw_g (lw_at lw_m1 47 rfl) rfl
theorem q66 : (Jvm.Cond.selects "DeriveTree" ({ cls := "DeriveTree", name := "split", desc := "(III)I" } : Jvm.MethodName) ({ cls := "DeriveTree", name := "split", desc := "(III)I" } : Jvm.MethodName)) ∈ lw_all := lw_g (lw_at lw_m1 48 rfl) rfl
theorem q67 : (Jvm.Cond.code ({ cls := "DeriveTree", name := "split", desc := "(III)I" } : Jvm.MethodName) prog_1_method_2_code (6 : Nat) (Option.some Jvm.ClassFile.FieldType.int)) ∈ lw_all := lw_g (lw_at lw_m1 49 rfl) rfl
theorem q68 : (Jvm.Cond.methodLink "DeriveTree" (44 : Nat) ({ cls := "DeriveTree", name := "isHeld", desc := "(I)Z" } : Jvm.MethodName)) ∈ lw_all := lw_g (lw_at lw_m1 50 rfl) rfl
theorem q69 : (Jvm.Cond.privateMethod ({ cls := "DeriveTree", name := "isHeld", desc := "(I)Z" } : Jvm.MethodName)) ∈ lw_tbl := lw_at lw_m1 51 rfl
theorem q70 : (Jvm.Cond.instanceMethod ({ cls := "DeriveTree", name := "isHeld", desc := "(I)Z" } : Jvm.MethodName)) ∈ lw_all := lw_g (lw_at lw_m1 52 rfl) rfl
theorem q71 : (Jvm.Cond.code ({ cls := "DeriveTree", name := "isHeld", desc := "(I)Z" } : Jvm.MethodName) prog_1_method_13_code (2 : Nat) (Option.some Jvm.ClassFile.FieldType.boolean)) ∈ lw_all := lw_g (lw_at lw_m1 53 rfl) rfl
theorem q72 : (Jvm.Cond.methodLink "DeriveTree" (48 : Nat) ({ cls := "DeriveTree", name := "isFree", desc := "(I)Z" } : Jvm.MethodName)) ∈ lw_all := lw_g (lw_at lw_m1 54 rfl) rfl
theorem q73 : (Jvm.Cond.privateMethod ({ cls := "DeriveTree", name := "isFree", desc := "(I)Z" } : Jvm.MethodName)) ∈ lw_tbl := lw_at lw_m1 55 rfl
theorem q74 : (Jvm.Cond.instanceMethod ({ cls := "DeriveTree", name := "isFree", desc := "(I)Z" } : Jvm.MethodName)) ∈ lw_all := lw_g (lw_at lw_m1 56 rfl) rfl
theorem q75 : (Jvm.Cond.code ({ cls := "DeriveTree", name := "isFree", desc := "(I)Z" } : Jvm.MethodName) prog_1_method_14_code (2 : Nat) (Option.some Jvm.ClassFile.FieldType.boolean)) ∈ lw_all := lw_g (lw_at lw_m1 57 rfl) rfl
theorem q76 : (Jvm.Cond.methodLink "DeriveTree" (51 : Nat) ({ cls := "DeriveTree", name := "freePiece", desc := "()I" } : Jvm.MethodName)) ∈ lw_all := lw_g (lw_at lw_m1 58 rfl) rfl
theorem q77 : (Jvm.Cond.privateMethod ({ cls := "DeriveTree", name := "freePiece", desc := "()I" } : Jvm.MethodName)) ∈ lw_tbl := lw_at lw_m1 59 rfl
theorem q78 : (Jvm.Cond.instanceMethod ({ cls := "DeriveTree", name := "freePiece", desc := "()I" } : Jvm.MethodName)) ∈ lw_all := lw_g (lw_at lw_m1 60 rfl) rfl
theorem q79 : (Jvm.Cond.code ({ cls := "DeriveTree", name := "freePiece", desc := "()I" } : Jvm.MethodName) prog_1_method_20_code (3 : Nat) (Option.some Jvm.ClassFile.FieldType.int)) ∈ lw_all := lw_g (lw_at lw_m1 61 rfl) rfl
theorem q80 : (Jvm.Cond.methodLink "DeriveTree" (55 : Nat) ({ cls := "DeriveTree", name := "putKey", desc := "(IIII)V" } : Jvm.MethodName)) ∈ lw_all := lw_g (lw_at lw_m1 62 rfl) rfl
theorem q81 : (Jvm.Cond.privateMethod ({ cls := "DeriveTree", name := "putKey", desc := "(IIII)V" } : Jvm.MethodName)) ∈ lw_tbl := lw_at lw_m1 63 rfl
theorem q82 : (Jvm.Cond.instanceMethod ({ cls := "DeriveTree", name := "putKey", desc := "(IIII)V" } : Jvm.MethodName)) ∈ lw_all := lw_g (lw_at lw_m1 64 rfl) rfl
theorem q83 : (Jvm.Cond.code ({ cls := "DeriveTree", name := "putKey", desc := "(IIII)V" } : Jvm.MethodName) prog_1_method_17_code (7 : Nat) (Option.none : Option Jvm.ClassFile.FieldType)) ∈ lw_all := lw_g (lw_at lw_m1 65 rfl) rfl
theorem q84 : (Jvm.Cond.methodLink "DeriveTree" (59 : Nat) ({ cls := "DeriveTree", name := "placeOf", desc := "(I)I" } : Jvm.MethodName)) ∈ lw_all := lw_g (lw_at lw_m1 66 rfl) rfl
theorem q85 : (Jvm.Cond.privateMethod ({ cls := "DeriveTree", name := "placeOf", desc := "(I)I" } : Jvm.MethodName)) ∈ lw_tbl := lw_at lw_m1 67 rfl
theorem q86 : (Jvm.Cond.instanceMethod ({ cls := "DeriveTree", name := "placeOf", desc := "(I)I" } : Jvm.MethodName)) ∈ lw_all := lw_g (lw_at lw_m1 68 rfl) rfl
theorem q87 : (Jvm.Cond.code ({ cls := "DeriveTree", name := "placeOf", desc := "(I)I" } : Jvm.MethodName) prog_1_method_15_code (4 : Nat) (Option.some Jvm.ClassFile.FieldType.int)) ∈ lw_all := lw_g (lw_at lw_m1 69 rfl) rfl
theorem q89 : (Jvm.Cond.instanceMethod ({ cls := "DeriveTree", name := "copy", desc := "(III)I" } : Jvm.MethodName)) ∈ lw_all := lw_g (lw_at lw_m1 71 rfl) rfl
theorem q90 : (Jvm.Cond.selects "DeriveTree" ({ cls := "DeriveTree", name := "copy", desc := "(III)I" } : Jvm.MethodName) ({ cls := "DeriveTree", name := "copy", desc := "(III)I" } : Jvm.MethodName)) ∈ lw_all := lw_g (lw_at lw_m1 72 rfl) rfl
theorem q91 : (Jvm.Cond.code ({ cls := "DeriveTree", name := "copy", desc := "(III)I" } : Jvm.MethodName) prog_1_method_3_code (4 : Nat) (Option.some Jvm.ClassFile.FieldType.int)) ∈ lw_all := lw_g (lw_at lw_m1 73 rfl) rfl
theorem q93 : (Jvm.Cond.instanceMethod ({ cls := "DeriveTree", name := "move", desc := "(II)I" } : Jvm.MethodName)) ∈ lw_all := lw_g (lw_at lw_m1 75 rfl) rfl
theorem q94 : (Jvm.Cond.selects "DeriveTree" ({ cls := "DeriveTree", name := "move", desc := "(II)I" } : Jvm.MethodName) ({ cls := "DeriveTree", name := "move", desc := "(II)I" } : Jvm.MethodName)) ∈ lw_all := lw_g (lw_at lw_m1 76 rfl) rfl
theorem q95 : (Jvm.Cond.code ({ cls := "DeriveTree", name := "move", desc := "(II)I" } : Jvm.MethodName) prog_1_method_4_code (4 : Nat) (Option.some Jvm.ClassFile.FieldType.int)) ∈ lw_all := lw_g (lw_at lw_m1 77 rfl) rfl
theorem q97 : (Jvm.Cond.instanceMethod ({ cls := "DeriveTree", name := "delete", desc := "(I)I" } : Jvm.MethodName)) ∈ lw_all := lw_g (lw_at lw_m1 79 rfl) rfl
theorem q98 : (Jvm.Cond.selects "DeriveTree" ({ cls := "DeriveTree", name := "delete", desc := "(I)I" } : Jvm.MethodName) ({ cls := "DeriveTree", name := "delete", desc := "(I)I" } : Jvm.MethodName)) ∈ lw_all := lw_g (lw_at lw_m1 80 rfl) rfl
theorem q99 : (Jvm.Cond.code ({ cls := "DeriveTree", name := "delete", desc := "(I)I" } : Jvm.MethodName) prog_1_method_5_code (7 : Nat) (Option.some Jvm.ClassFile.FieldType.int)) ∈ lw_all := lw_g (lw_at lw_m1 81 rfl) rfl
theorem q100 : (Jvm.Cond.methodLink "DeriveTree" (63 : Nat) ({ cls := "DeriveTree", name := "endOfPart", desc := "(I)I" } : Jvm.MethodName)) ∈ lw_all := lw_g (lw_at lw_m1 82 rfl) rfl
theorem q101 : (Jvm.Cond.privateMethod ({ cls := "DeriveTree", name := "endOfPart", desc := "(I)I" } : Jvm.MethodName)) ∈ lw_tbl := lw_at lw_m1 83 rfl
theorem q102 : (Jvm.Cond.instanceMethod ({ cls := "DeriveTree", name := "endOfPart", desc := "(I)I" } : Jvm.MethodName)) ∈ lw_all := lw_g (lw_at lw_m1 84 rfl) rfl
theorem q103 : (Jvm.Cond.code ({ cls := "DeriveTree", name := "endOfPart", desc := "(I)I" } : Jvm.MethodName) prog_1_method_16_code (4 : Nat) (Option.some Jvm.ClassFile.FieldType.int)) ∈ lw_all := lw_g (lw_at lw_m1 85 rfl) rfl
theorem q104 : (Jvm.Cond.methodLink "DeriveTree" (66 : Nat) ({ cls := "DeriveTree", name := "forgetKey", desc := "(I)V" } : Jvm.MethodName)) ∈ lw_all := lw_g (lw_at lw_m1 86 rfl) rfl
theorem q105 : (Jvm.Cond.privateMethod ({ cls := "DeriveTree", name := "forgetKey", desc := "(I)V" } : Jvm.MethodName)) ∈ lw_tbl := lw_at lw_m1 87 rfl
theorem q106 : (Jvm.Cond.instanceMethod ({ cls := "DeriveTree", name := "forgetKey", desc := "(I)V" } : Jvm.MethodName)) ∈ lw_all := lw_g (lw_at lw_m1 88 rfl) rfl
theorem q107 : (Jvm.Cond.code ({ cls := "DeriveTree", name := "forgetKey", desc := "(I)V" } : Jvm.MethodName) prog_1_method_18_code (2 : Nat) (Option.none : Option Jvm.ClassFile.FieldType)) ∈ lw_all := lw_g (lw_at lw_m1 89 rfl) rfl
theorem q108 : (Jvm.Cond.methodLink "DeriveTree" (70 : Nat) ({ cls := "DeriveTree", name := "cutRow", desc := "(II)V" } : Jvm.MethodName)) ∈ lw_all := lw_g (lw_at lw_m1 90 rfl) rfl
theorem q109 : (Jvm.Cond.privateMethod ({ cls := "DeriveTree", name := "cutRow", desc := "(II)V" } : Jvm.MethodName)) ∈ lw_tbl := lw_at lw_m1 91 rfl
theorem q110 : (Jvm.Cond.instanceMethod ({ cls := "DeriveTree", name := "cutRow", desc := "(II)V" } : Jvm.MethodName)) ∈ lw_all := lw_g (lw_at lw_m1 92 rfl) rfl
theorem q111 : (Jvm.Cond.code ({ cls := "DeriveTree", name := "cutRow", desc := "(II)V" } : Jvm.MethodName) prog_1_method_19_code (5 : Nat) (Option.none : Option Jvm.ClassFile.FieldType)) ∈ lw_all := lw_g (lw_at lw_m1 93 rfl) rfl
theorem q112 : (Jvm.Cond.methodLink "DeriveTree" (74 : Nat) ({ cls := "DeriveTree", name := "resetMarks", desc := "()V" } : Jvm.MethodName)) ∈ lw_all := lw_g (lw_at lw_m1 94 rfl) rfl
theorem q113 : (Jvm.Cond.privateMethod ({ cls := "DeriveTree", name := "resetMarks", desc := "()V" } : Jvm.MethodName)) ∈ lw_tbl := lw_at lw_m1 95 rfl
theorem q114 : (Jvm.Cond.instanceMethod ({ cls := "DeriveTree", name := "resetMarks", desc := "()V" } : Jvm.MethodName)) ∈ lw_all := lw_g (lw_at lw_m1 96 rfl) rfl
theorem q115 : (Jvm.Cond.code ({ cls := "DeriveTree", name := "resetMarks", desc := "()V" } : Jvm.MethodName) prog_1_method_21_code (2 : Nat) (Option.none : Option Jvm.ClassFile.FieldType)) ∈ lw_all := lw_g (lw_at lw_m1 97 rfl) rfl
theorem q116 : (Jvm.Cond.methodLink "DeriveTree" (77 : Nat) ({ cls := "DeriveTree", name := "holdsOthers", desc := "(I)Z" } : Jvm.MethodName)) ∈ lw_all := lw_g (lw_at lw_m1 98 rfl) rfl
theorem q117 : (Jvm.Cond.privateMethod ({ cls := "DeriveTree", name := "holdsOthers", desc := "(I)Z" } : Jvm.MethodName)) ∈ lw_tbl := lw_at lw_m1 99 rfl
theorem q118 : (Jvm.Cond.instanceMethod ({ cls := "DeriveTree", name := "holdsOthers", desc := "(I)Z" } : Jvm.MethodName)) ∈ lw_all := lw_g (lw_at lw_m1 100 rfl) rfl
theorem q119 : (Jvm.Cond.code ({ cls := "DeriveTree", name := "holdsOthers", desc := "(I)Z" } : Jvm.MethodName) prog_1_method_22_code (4 : Nat) (Option.some Jvm.ClassFile.FieldType.boolean)) ∈ lw_all := lw_g (lw_at lw_m1 101 rfl) rfl
theorem q121 : (Jvm.Cond.instanceMethod ({ cls := "DeriveTree", name := "revoke", desc := "(I)I" } : Jvm.MethodName)) ∈ lw_all := lw_g (lw_at lw_m1 103 rfl) rfl
theorem q122 : (Jvm.Cond.selects "DeriveTree" ({ cls := "DeriveTree", name := "revoke", desc := "(I)I" } : Jvm.MethodName) ({ cls := "DeriveTree", name := "revoke", desc := "(I)I" } : Jvm.MethodName)) ∈ lw_all := lw_g (lw_at lw_m1 104 rfl) rfl
theorem q123 : (Jvm.Cond.code ({ cls := "DeriveTree", name := "revoke", desc := "(I)I" } : Jvm.MethodName) prog_1_method_6_code (5 : Nat) (Option.some Jvm.ClassFile.FieldType.int)) ∈ lw_all := lw_g (lw_at lw_m1 105 rfl) rfl
theorem q125 : (Jvm.Cond.instanceMethod ({ cls := "DeriveTree", name := "piece", desc := "(I)I" } : Jvm.MethodName)) ∈ lw_all := lw_g (lw_at lw_m1 107 rfl) rfl
theorem q126 : (Jvm.Cond.selects "DeriveTree" ({ cls := "DeriveTree", name := "piece", desc := "(I)I" } : Jvm.MethodName) ({ cls := "DeriveTree", name := "piece", desc := "(I)I" } : Jvm.MethodName)) ∈ lw_all := lw_g (lw_at lw_m1 108 rfl) rfl
theorem q127 : (Jvm.Cond.code ({ cls := "DeriveTree", name := "piece", desc := "(I)I" } : Jvm.MethodName) prog_1_method_7_code (2 : Nat) (Option.some Jvm.ClassFile.FieldType.int)) ∈ lw_all := lw_g (lw_at lw_m1 109 rfl) rfl
theorem q129 : (Jvm.Cond.instanceMethod ({ cls := "DeriveTree", name := "rights", desc := "(I)I" } : Jvm.MethodName)) ∈ lw_all := lw_g (lw_at lw_m1 111 rfl) rfl
theorem q130 : (Jvm.Cond.selects "DeriveTree" ({ cls := "DeriveTree", name := "rights", desc := "(I)I" } : Jvm.MethodName) ({ cls := "DeriveTree", name := "rights", desc := "(I)I" } : Jvm.MethodName)) ∈ lw_all := lw_g (lw_at lw_m1 112 rfl) rfl
theorem q131 : (Jvm.Cond.code ({ cls := "DeriveTree", name := "rights", desc := "(I)I" } : Jvm.MethodName) prog_1_method_8_code (2 : Nat) (Option.some Jvm.ClassFile.FieldType.int)) ∈ lw_all := lw_g (lw_at lw_m1 113 rfl) rfl
theorem q133 : (Jvm.Cond.instanceMethod ({ cls := "DeriveTree", name := "room", desc := "(I)I" } : Jvm.MethodName)) ∈ lw_all := lw_g (lw_at lw_m1 115 rfl) rfl
theorem q134 : (Jvm.Cond.selects "DeriveTree" ({ cls := "DeriveTree", name := "room", desc := "(I)I" } : Jvm.MethodName) ({ cls := "DeriveTree", name := "room", desc := "(I)I" } : Jvm.MethodName)) ∈ lw_all := lw_g (lw_at lw_m1 116 rfl) rfl
theorem q135 : (Jvm.Cond.code ({ cls := "DeriveTree", name := "room", desc := "(I)I" } : Jvm.MethodName) prog_1_method_9_code (2 : Nat) (Option.some Jvm.ClassFile.FieldType.int)) ∈ lw_all := lw_g (lw_at lw_m1 117 rfl) rfl
theorem q137 : (Jvm.Cond.instanceMethod ({ cls := "DeriveTree", name := "descends", desc := "(II)I" } : Jvm.MethodName)) ∈ lw_all := lw_g (lw_at lw_m1 119 rfl) rfl
theorem q138 : (Jvm.Cond.selects "DeriveTree" ({ cls := "DeriveTree", name := "descends", desc := "(II)I" } : Jvm.MethodName) ({ cls := "DeriveTree", name := "descends", desc := "(II)I" } : Jvm.MethodName)) ∈ lw_all := lw_g (lw_at lw_m1 120 rfl) rfl
theorem q139 : (Jvm.Cond.code ({ cls := "DeriveTree", name := "descends", desc := "(II)I" } : Jvm.MethodName) prog_1_method_10_code (5 : Nat) (Option.some Jvm.ClassFile.FieldType.int)) ∈ lw_all := lw_g (lw_at lw_m1 121 rfl) rfl
theorem q141 : (Jvm.Cond.instanceMethod ({ cls := "DeriveTree", name := "descendants", desc := "(I)I" } : Jvm.MethodName)) ∈ lw_all := lw_g (lw_at lw_m1 123 rfl) rfl
theorem q142 : (Jvm.Cond.selects "DeriveTree" ({ cls := "DeriveTree", name := "descendants", desc := "(I)I" } : Jvm.MethodName) ({ cls := "DeriveTree", name := "descendants", desc := "(I)I" } : Jvm.MethodName)) ∈ lw_all := lw_g (lw_at lw_m1 124 rfl) rfl
theorem q143 : (Jvm.Cond.code ({ cls := "DeriveTree", name := "descendants", desc := "(I)I" } : Jvm.MethodName) prog_1_method_11_code (3 : Nat) (Option.some Jvm.ClassFile.FieldType.int)) ∈ lw_all := lw_g (lw_at lw_m1 125 rfl) rfl
theorem q145 : (Jvm.Cond.instanceMethod ({ cls := "DeriveTree", name := "keys", desc := "()I" } : Jvm.MethodName)) ∈ lw_all := lw_g (lw_at lw_m1 127 rfl) rfl
theorem q146 : (Jvm.Cond.selects "DeriveTree" ({ cls := "DeriveTree", name := "keys", desc := "()I" } : Jvm.MethodName) ({ cls := "DeriveTree", name := "keys", desc := "()I" } : Jvm.MethodName)) ∈ lw_all := lw_g (lw_at lw_m1 128 rfl) rfl
theorem q147 : (Jvm.Cond.code ({ cls := "DeriveTree", name := "keys", desc := "()I" } : Jvm.MethodName) prog_1_method_12_code (1 : Nat) (Option.some Jvm.ClassFile.FieldType.int)) ∈ lw_all := lw_g (lw_at lw_m1 129 rfl) rfl
theorem in_X0 : ∀ w ∈ wsX00, w ∈ lw_all := lw_in wsX00 [40, 42, 44, 46, 48, 50, 52, 54, 56, 58, 60] (by decide +kernel) (by decide +kernel)
end
section
set_option maxRecDepth 100000
/-! DeriveTreeModel -/
def RX1 : String := "DeriveTreeModel"
def TX1 : u_T := fun k => match k with
  | 0 => ("DeriveTreeModel", "held", "[Z", true)
  | 1 => ("DeriveTreeModel", "pieceOf", "[I", true)
  | 2 => ("DeriveTreeModel", "rightsOf", "[I", true)
  | 3 => ("DeriveTreeModel", "parent", "[I", true)
  | 4 => ("DeriveTreeModel", "starts", "[I", true)
  | 5 => ("DeriveTreeModel", "sizes", "[I", true)
  | 6 => ("DeriveTreeModel", "marks", "[I", true)
  | 7 => ("DeriveTreeModel", "numbers", "[I", true)
  | 8 => ("DeriveTreeModel", "made", "I", false)
  | _ => ("DeriveTreeModel", "going", "[Z", true)
def tyX1 : Nat → FieldType := fun k => match k with
  | 0 => .array .boolean
  | 1 => .array .int
  | 2 => .array .int
  | 3 => .array .int
  | 4 => .array .int
  | 5 => .array .int
  | 6 => .array .int
  | 7 => .array .int
  | 8 => .int
  | _ => .array .boolean
abbrev wsX10 : List Cond := u_ws RX1 TX1 10
theorem nmX1 : ∀ a, a < 10 → ∀ b, b < 10 → a ≠ b → (TX1 a).2.1 ≠ (TX1 b).2.1 := by decide +kernel
theorem tyX1_ok : ∀ k, k < 10 → parseFieldDescriptor (TX1 k).2.2.1 = some (tyX1 k) := by decide +kernel
abbrev cX1_init : ByteArray := prog_3_method_1_code
def yX1_init : MethodName := ⟨RX1, "<init>", "()V"⟩
abbrev cX1_split : ByteArray := prog_3_method_8_code
def yX1_split : MethodName := ⟨RX1, "split", "(III)I"⟩
abbrev cX1_missing : ByteArray := prog_3_method_2_code
def yX1_missing : MethodName := ⟨RX1, "missing", "(I)Z"⟩
abbrev cX1_taken : ByteArray := prog_3_method_3_code
def yX1_taken : MethodName := ⟨RX1, "taken", "(I)Z"⟩
abbrev cX1_there : ByteArray := prog_3_method_4_code
def yX1_there : MethodName := ⟨RX1, "there", "(I)Z"⟩
abbrev cX1_hold : ByteArray := prog_3_method_7_code
def yX1_hold : MethodName := ⟨RX1, "hold", "(IIII)V"⟩
abbrev cX1_copy : ByteArray := prog_3_method_9_code
def yX1_copy : MethodName := ⟨RX1, "copy", "(III)I"⟩
abbrev cX1_move : ByteArray := prog_3_method_11_code
def yX1_move : MethodName := ⟨RX1, "move", "(II)I"⟩
abbrev cX1_hand : ByteArray := prog_3_method_10_code
def yX1_hand : MethodName := ⟨RX1, "hand", "(II)I"⟩
abbrev cX1_delete : ByteArray := prog_3_method_12_code
def yX1_delete : MethodName := ⟨RX1, "delete", "(I)I"⟩
abbrev cX1_settle : ByteArray := prog_3_method_6_code
def yX1_settle : MethodName := ⟨RX1, "settle", "()V"⟩
abbrev cX1_lies : ByteArray := prog_3_method_5_code
def yX1_lies : MethodName := ⟨RX1, "lies", "(II)Z"⟩
abbrev cX1_revoke : ByteArray := prog_3_method_14_code
def yX1_revoke : MethodName := ⟨RX1, "revoke", "(I)I"⟩
abbrev cX1_below : ByteArray := prog_3_method_13_code
def yX1_below : MethodName := ⟨RX1, "below", "(II)Z"⟩
abbrev cX1_piece : ByteArray := prog_3_method_15_code
def yX1_piece : MethodName := ⟨RX1, "piece", "(I)I"⟩
abbrev cX1_rights : ByteArray := prog_3_method_16_code
def yX1_rights : MethodName := ⟨RX1, "rights", "(I)I"⟩
abbrev cX1_room : ByteArray := prog_3_method_17_code
def yX1_room : MethodName := ⟨RX1, "room", "(I)I"⟩
abbrev cX1_descends : ByteArray := prog_3_method_18_code
def yX1_descends : MethodName := ⟨RX1, "descends", "(II)I"⟩
abbrev cX1_descendants : ByteArray := prog_3_method_19_code
def yX1_descendants : MethodName := ⟨RX1, "descendants", "(I)I"⟩
abbrev cX1_keys : ByteArray := prog_3_method_20_code
def yX1_keys : MethodName := ⟨RX1, "keys", "()I"⟩
theorem q20 : (Jvm.Cond.initialized "DeriveTreeModel") ∈ lw_all := lw_g (lw_at lw_m1 2 rfl) rfl
theorem q149 : (Jvm.Cond.instantiable "DeriveTreeModel" (10 : Nat)) ∈ lw_all := lw_g (lw_at lw_m1 131 rfl) rfl
theorem q151 : (Jvm.Cond.instanceMethod ({ cls := "DeriveTreeModel", name := "<init>", desc := "()V" } : Jvm.MethodName)) ∈ lw_all := lw_g (lw_at lw_m1 133 rfl) rfl
theorem q152 : (Jvm.Cond.code ({ cls := "DeriveTreeModel", name := "<init>", desc := "()V" } : Jvm.MethodName) prog_3_method_1_code (1 : Nat) (Option.none : Option Jvm.ClassFile.FieldType)) ∈ lw_all := lw_g (lw_at lw_m1 134 rfl) rfl
theorem q153 : (Jvm.Cond.methodLink "DeriveTreeModel" (1 : Nat) ({ cls := "java/lang/Object", name := "<init>", desc := "()V" } : Jvm.MethodName)) ∈ lw_all := lw_g (lw_at lw_m1 135 rfl) rfl
theorem q154 : (Jvm.Cond.fieldLink "DeriveTreeModel" (7 : Nat) "DeriveTreeModel" "held" "[Z") ∈ lw_all := lw_g (lw_at lw_m1 136 rfl) rfl
theorem q155 : (Jvm.Cond.fieldLink "DeriveTreeModel" (13 : Nat) "DeriveTreeModel" "pieceOf" "[I") ∈ lw_all := lw_g (lw_at lw_m1 137 rfl) rfl
theorem q156 : (Jvm.Cond.fieldLink "DeriveTreeModel" (17 : Nat) "DeriveTreeModel" "rightsOf" "[I") ∈ lw_all := lw_g (lw_at lw_m1 138 rfl) rfl
theorem q157 : (Jvm.Cond.fieldLink "DeriveTreeModel" (20 : Nat) "DeriveTreeModel" "parent" "[I") ∈ lw_all := lw_g (lw_at lw_m1 139 rfl) rfl
theorem q158 : (Jvm.Cond.fieldLink "DeriveTreeModel" (23 : Nat) "DeriveTreeModel" "starts" "[I") ∈ lw_all := lw_g (lw_at lw_m1 140 rfl) rfl
theorem q159 : (Jvm.Cond.fieldLink "DeriveTreeModel" (26 : Nat) "DeriveTreeModel" "sizes" "[I") ∈ lw_all := lw_g (lw_at lw_m1 141 rfl) rfl
theorem q160 : (Jvm.Cond.fieldLink "DeriveTreeModel" (29 : Nat) "DeriveTreeModel" "marks" "[I") ∈ lw_all := lw_g (lw_at lw_m1 142 rfl) rfl
theorem q161 : (Jvm.Cond.fieldLink "DeriveTreeModel" (32 : Nat) "DeriveTreeModel" "numbers" "[I") ∈ lw_all := lw_g (lw_at lw_m1 143 rfl) rfl
theorem q162 : (Jvm.Cond.fieldLink "DeriveTreeModel" (35 : Nat) "DeriveTreeModel" "made" "I") ∈ lw_all := lw_g (lw_at lw_m1 144 rfl) rfl
theorem q163 : (Jvm.Cond.fieldLink "DeriveTreeModel" (39 : Nat) "DeriveTreeModel" "going" "[Z") ∈ lw_all := lw_g (lw_at lw_m1 145 rfl) rfl
theorem q164 : (Jvm.Cond.laysFinal "DeriveTreeModel" "DeriveTreeModel" "held" "[Z") ∈ lw_all := lw_g (lw_at lw_m1 146 rfl) rfl
theorem q165 : (Jvm.Cond.soleField "DeriveTreeModel" "held") ∈ lw_all := lw_g (lw_at lw_m1 147 rfl) rfl
theorem q166 : (Jvm.Cond.laysFinal "DeriveTreeModel" "DeriveTreeModel" "pieceOf" "[I") ∈ lw_all := lw_g (lw_at lw_m1 148 rfl) rfl
theorem q167 : (Jvm.Cond.soleField "DeriveTreeModel" "pieceOf") ∈ lw_all := lw_g (lw_at lw_m1 149 rfl) rfl
theorem q168 : (Jvm.Cond.laysFinal "DeriveTreeModel" "DeriveTreeModel" "rightsOf" "[I") ∈ lw_all := lw_g (lw_at lw_m1 150 rfl) rfl
theorem q169 : (Jvm.Cond.soleField "DeriveTreeModel" "rightsOf") ∈ lw_all := lw_g (lw_at lw_m1 151 rfl) rfl
theorem q170 : (Jvm.Cond.laysFinal "DeriveTreeModel" "DeriveTreeModel" "parent" "[I") ∈ lw_all := lw_g (lw_at lw_m1 152 rfl) rfl
theorem q171 : (Jvm.Cond.soleField "DeriveTreeModel" "parent") ∈ lw_all := lw_g (lw_at lw_m1 153 rfl) rfl
theorem q172 : (Jvm.Cond.laysFinal "DeriveTreeModel" "DeriveTreeModel" "starts" "[I") ∈ lw_all := lw_g (lw_at lw_m1 154 rfl) rfl
theorem q173 : (Jvm.Cond.soleField "DeriveTreeModel" "starts") ∈ lw_all := lw_g (lw_at lw_m1 155 rfl) rfl
theorem q174 : (Jvm.Cond.laysFinal "DeriveTreeModel" "DeriveTreeModel" "sizes" "[I") ∈ lw_all := lw_g (lw_at lw_m1 156 rfl) rfl
theorem q175 : (Jvm.Cond.soleField "DeriveTreeModel" "sizes") ∈ lw_all := lw_g (lw_at lw_m1 157 rfl) rfl
theorem q176 : (Jvm.Cond.laysFinal "DeriveTreeModel" "DeriveTreeModel" "marks" "[I") ∈ lw_all := lw_g (lw_at lw_m1 158 rfl) rfl
theorem q177 : (Jvm.Cond.soleField "DeriveTreeModel" "marks") ∈ lw_all := lw_g (lw_at lw_m1 159 rfl) rfl
theorem q178 : (Jvm.Cond.laysFinal "DeriveTreeModel" "DeriveTreeModel" "numbers" "[I") ∈ lw_all := lw_g (lw_at lw_m1 160 rfl) rfl
theorem q179 : (Jvm.Cond.soleField "DeriveTreeModel" "numbers") ∈ lw_all := lw_g (lw_at lw_m1 161 rfl) rfl
theorem q180 : (Jvm.Cond.lays "DeriveTreeModel" "DeriveTreeModel" "made" "I") ∈ lw_all := lw_g (lw_at lw_m1 162 rfl) rfl
theorem q181 : (Jvm.Cond.soleField "DeriveTreeModel" "made") ∈ lw_all := lw_g (lw_at lw_m1 163 rfl) rfl
theorem q182 : (Jvm.Cond.laysFinal "DeriveTreeModel" "DeriveTreeModel" "going" "[Z") ∈ lw_all := lw_g (lw_at lw_m1 164 rfl) rfl
theorem q183 : (Jvm.Cond.soleField "DeriveTreeModel" "going") ∈ lw_all := lw_g (lw_at lw_m1 165 rfl) rfl
theorem q184 : (Jvm.Cond.superclass "DeriveTreeModel" "java/lang/Object") ∈ lw_all := lw_g (lw_at lw_m1 166 rfl) rfl
theorem q187 : (Jvm.Cond.instanceMethod ({ cls := "DeriveTreeModel", name := "split", desc := "(III)I" } : Jvm.MethodName)) ∈ lw_all := lw_g (lw_at lw_m1 169 rfl) rfl
theorem q188 : (Jvm.Cond.selects "DeriveTreeModel" ({ cls := "DeriveTreeModel", name := "split", desc := "(III)I" } : Jvm.MethodName) ({ cls := "DeriveTreeModel", name := "split", desc := "(III)I" } : Jvm.MethodName)) ∈ lw_all := lw_g (lw_at lw_m1 170 rfl) rfl
theorem q189 : (Jvm.Cond.code ({ cls := "DeriveTreeModel", name := "split", desc := "(III)I" } : Jvm.MethodName) prog_3_method_8_code (6 : Nat) (Option.some Jvm.ClassFile.FieldType.int)) ∈ lw_all := lw_g (lw_at lw_m1 171 rfl) rfl
theorem q190 : (Jvm.Cond.methodLink "DeriveTreeModel" (50 : Nat) ({ cls := "DeriveTreeModel", name := "missing", desc := "(I)Z" } : Jvm.MethodName)) ∈ lw_all := lw_g (lw_at lw_m1 172 rfl) rfl
theorem q191 : (Jvm.Cond.privateMethod ({ cls := "DeriveTreeModel", name := "missing", desc := "(I)Z" } : Jvm.MethodName)) ∈ lw_tbl := lw_at lw_m1 173 rfl
theorem q192 : (Jvm.Cond.instanceMethod ({ cls := "DeriveTreeModel", name := "missing", desc := "(I)Z" } : Jvm.MethodName)) ∈ lw_all := lw_g (lw_at lw_m1 174 rfl) rfl
theorem q193 : (Jvm.Cond.code ({ cls := "DeriveTreeModel", name := "missing", desc := "(I)Z" } : Jvm.MethodName) prog_3_method_2_code (2 : Nat) (Option.some Jvm.ClassFile.FieldType.boolean)) ∈ lw_all := lw_g (lw_at lw_m1 175 rfl) rfl
theorem q194 : (Jvm.Cond.methodLink "DeriveTreeModel" (53 : Nat) ({ cls := "DeriveTreeModel", name := "taken", desc := "(I)Z" } : Jvm.MethodName)) ∈ lw_all := lw_g (lw_at lw_m1 176 rfl) rfl
theorem q195 : (Jvm.Cond.privateMethod ({ cls := "DeriveTreeModel", name := "taken", desc := "(I)Z" } : Jvm.MethodName)) ∈ lw_tbl := lw_at lw_m1 177 rfl
theorem q196 : (Jvm.Cond.instanceMethod ({ cls := "DeriveTreeModel", name := "taken", desc := "(I)Z" } : Jvm.MethodName)) ∈ lw_all := lw_g (lw_at lw_m1 178 rfl) rfl
theorem q197 : (Jvm.Cond.code ({ cls := "DeriveTreeModel", name := "taken", desc := "(I)Z" } : Jvm.MethodName) prog_3_method_3_code (2 : Nat) (Option.some Jvm.ClassFile.FieldType.boolean)) ∈ lw_all := lw_g (lw_at lw_m1 179 rfl) rfl
theorem q198 : (Jvm.Cond.methodLink "DeriveTreeModel" (46 : Nat) ({ cls := "DeriveTreeModel", name := "there", desc := "(I)Z" } : Jvm.MethodName)) ∈ lw_all := lw_g (lw_at lw_m1 180 rfl) rfl
theorem q199 : (Jvm.Cond.privateMethod ({ cls := "DeriveTreeModel", name := "there", desc := "(I)Z" } : Jvm.MethodName)) ∈ lw_tbl := lw_at lw_m1 181 rfl
theorem q200 : (Jvm.Cond.instanceMethod ({ cls := "DeriveTreeModel", name := "there", desc := "(I)Z" } : Jvm.MethodName)) ∈ lw_all := lw_g (lw_at lw_m1 182 rfl) rfl
theorem q201 : (Jvm.Cond.code ({ cls := "DeriveTreeModel", name := "there", desc := "(I)Z" } : Jvm.MethodName) prog_3_method_4_code (3 : Nat) (Option.some Jvm.ClassFile.FieldType.boolean)) ∈ lw_all := lw_g (lw_at lw_m1 183 rfl) rfl
theorem q202 : (Jvm.Cond.methodLink "DeriveTreeModel" (56 : Nat) ({ cls := "DeriveTreeModel", name := "hold", desc := "(IIII)V" } : Jvm.MethodName)) ∈ lw_all := lw_g (lw_at lw_m1 184 rfl) rfl
theorem q203 : (Jvm.Cond.privateMethod ({ cls := "DeriveTreeModel", name := "hold", desc := "(IIII)V" } : Jvm.MethodName)) ∈ lw_tbl := lw_at lw_m1 185 rfl
theorem q204 : (Jvm.Cond.instanceMethod ({ cls := "DeriveTreeModel", name := "hold", desc := "(IIII)V" } : Jvm.MethodName)) ∈ lw_all := lw_g (lw_at lw_m1 186 rfl) rfl
theorem q205 : (Jvm.Cond.code ({ cls := "DeriveTreeModel", name := "hold", desc := "(IIII)V" } : Jvm.MethodName) prog_3_method_7_code (5 : Nat) (Option.none : Option Jvm.ClassFile.FieldType)) ∈ lw_all := lw_g (lw_at lw_m1 187 rfl) rfl
theorem q207 : (Jvm.Cond.instanceMethod ({ cls := "DeriveTreeModel", name := "copy", desc := "(III)I" } : Jvm.MethodName)) ∈ lw_all := lw_g (lw_at lw_m1 189 rfl) rfl
theorem q208 : (Jvm.Cond.selects "DeriveTreeModel" ({ cls := "DeriveTreeModel", name := "copy", desc := "(III)I" } : Jvm.MethodName) ({ cls := "DeriveTreeModel", name := "copy", desc := "(III)I" } : Jvm.MethodName)) ∈ lw_all := lw_g (lw_at lw_m1 190 rfl) rfl
theorem q209 : (Jvm.Cond.code ({ cls := "DeriveTreeModel", name := "copy", desc := "(III)I" } : Jvm.MethodName) prog_3_method_9_code (4 : Nat) (Option.some Jvm.ClassFile.FieldType.int)) ∈ lw_all := lw_g (lw_at lw_m1 191 rfl) rfl
theorem q211 : (Jvm.Cond.instanceMethod ({ cls := "DeriveTreeModel", name := "move", desc := "(II)I" } : Jvm.MethodName)) ∈ lw_all := lw_g (lw_at lw_m1 193 rfl) rfl
theorem q212 : (Jvm.Cond.selects "DeriveTreeModel" ({ cls := "DeriveTreeModel", name := "move", desc := "(II)I" } : Jvm.MethodName) ({ cls := "DeriveTreeModel", name := "move", desc := "(II)I" } : Jvm.MethodName)) ∈ lw_all := lw_g (lw_at lw_m1 194 rfl) rfl
theorem q213 : (Jvm.Cond.code ({ cls := "DeriveTreeModel", name := "move", desc := "(II)I" } : Jvm.MethodName) prog_3_method_11_code (3 : Nat) (Option.some Jvm.ClassFile.FieldType.int)) ∈ lw_all := lw_g (lw_at lw_m1 195 rfl) rfl
theorem q214 : (Jvm.Cond.methodLink "DeriveTreeModel" (60 : Nat) ({ cls := "DeriveTreeModel", name := "hand", desc := "(II)I" } : Jvm.MethodName)) ∈ lw_all := lw_g (lw_at lw_m1 196 rfl) rfl
theorem q215 : (Jvm.Cond.privateMethod ({ cls := "DeriveTreeModel", name := "hand", desc := "(II)I" } : Jvm.MethodName)) ∈ lw_tbl := lw_at lw_m1 197 rfl
theorem q216 : (Jvm.Cond.instanceMethod ({ cls := "DeriveTreeModel", name := "hand", desc := "(II)I" } : Jvm.MethodName)) ∈ lw_all := lw_g (lw_at lw_m1 198 rfl) rfl
theorem q217 : (Jvm.Cond.code ({ cls := "DeriveTreeModel", name := "hand", desc := "(II)I" } : Jvm.MethodName) prog_3_method_10_code (5 : Nat) (Option.some Jvm.ClassFile.FieldType.int)) ∈ lw_all := lw_g (lw_at lw_m1 199 rfl) rfl
theorem q219 : (Jvm.Cond.instanceMethod ({ cls := "DeriveTreeModel", name := "delete", desc := "(I)I" } : Jvm.MethodName)) ∈ lw_all := lw_g (lw_at lw_m1 201 rfl) rfl
theorem q220 : (Jvm.Cond.selects "DeriveTreeModel" ({ cls := "DeriveTreeModel", name := "delete", desc := "(I)I" } : Jvm.MethodName) ({ cls := "DeriveTreeModel", name := "delete", desc := "(I)I" } : Jvm.MethodName)) ∈ lw_all := lw_g (lw_at lw_m1 202 rfl) rfl
theorem q221 : (Jvm.Cond.code ({ cls := "DeriveTreeModel", name := "delete", desc := "(I)I" } : Jvm.MethodName) prog_3_method_12_code (3 : Nat) (Option.some Jvm.ClassFile.FieldType.int)) ∈ lw_all := lw_g (lw_at lw_m1 203 rfl) rfl
theorem q222 : (Jvm.Cond.methodLink "DeriveTreeModel" (64 : Nat) ({ cls := "DeriveTreeModel", name := "settle", desc := "()V" } : Jvm.MethodName)) ∈ lw_all := lw_g (lw_at lw_m1 204 rfl) rfl
theorem q223 : (Jvm.Cond.privateMethod ({ cls := "DeriveTreeModel", name := "settle", desc := "()V" } : Jvm.MethodName)) ∈ lw_tbl := lw_at lw_m1 205 rfl
theorem q224 : (Jvm.Cond.instanceMethod ({ cls := "DeriveTreeModel", name := "settle", desc := "()V" } : Jvm.MethodName)) ∈ lw_all := lw_g (lw_at lw_m1 206 rfl) rfl
theorem q225 : (Jvm.Cond.code ({ cls := "DeriveTreeModel", name := "settle", desc := "()V" } : Jvm.MethodName) prog_3_method_6_code (4 : Nat) (Option.none : Option Jvm.ClassFile.FieldType)) ∈ lw_all := lw_g (lw_at lw_m1 207 rfl) rfl
theorem q226 : (Jvm.Cond.methodLink "DeriveTreeModel" (42 : Nat) ({ cls := "DeriveTreeModel", name := "lies", desc := "(II)Z" } : Jvm.MethodName)) ∈ lw_all := lw_g (lw_at lw_m1 208 rfl) rfl
theorem q227 : (Jvm.Cond.privateMethod ({ cls := "DeriveTreeModel", name := "lies", desc := "(II)Z" } : Jvm.MethodName)) ∈ lw_tbl := lw_at lw_m1 209 rfl
theorem q228 : (Jvm.Cond.instanceMethod ({ cls := "DeriveTreeModel", name := "lies", desc := "(II)Z" } : Jvm.MethodName)) ∈ lw_all := lw_g (lw_at lw_m1 210 rfl) rfl
theorem q229 : (Jvm.Cond.code ({ cls := "DeriveTreeModel", name := "lies", desc := "(II)Z" } : Jvm.MethodName) prog_3_method_5_code (3 : Nat) (Option.some Jvm.ClassFile.FieldType.boolean)) ∈ lw_all := lw_g (lw_at lw_m1 211 rfl) rfl
theorem q231 : (Jvm.Cond.instanceMethod ({ cls := "DeriveTreeModel", name := "revoke", desc := "(I)I" } : Jvm.MethodName)) ∈ lw_all := lw_g (lw_at lw_m1 213 rfl) rfl
theorem q232 : (Jvm.Cond.selects "DeriveTreeModel" ({ cls := "DeriveTreeModel", name := "revoke", desc := "(I)I" } : Jvm.MethodName) ({ cls := "DeriveTreeModel", name := "revoke", desc := "(I)I" } : Jvm.MethodName)) ∈ lw_all := lw_g (lw_at lw_m1 214 rfl) rfl
theorem q233 : (Jvm.Cond.code ({ cls := "DeriveTreeModel", name := "revoke", desc := "(I)I" } : Jvm.MethodName) prog_3_method_14_code (4 : Nat) (Option.some Jvm.ClassFile.FieldType.int)) ∈ lw_all := lw_g (lw_at lw_m1 215 rfl) rfl
theorem q234 : (Jvm.Cond.methodLink "DeriveTreeModel" (67 : Nat) ({ cls := "DeriveTreeModel", name := "below", desc := "(II)Z" } : Jvm.MethodName)) ∈ lw_all := lw_g (lw_at lw_m1 216 rfl) rfl
theorem q235 : (Jvm.Cond.privateMethod ({ cls := "DeriveTreeModel", name := "below", desc := "(II)Z" } : Jvm.MethodName)) ∈ lw_tbl := lw_at lw_m1 217 rfl
theorem q236 : (Jvm.Cond.instanceMethod ({ cls := "DeriveTreeModel", name := "below", desc := "(II)Z" } : Jvm.MethodName)) ∈ lw_all := lw_g (lw_at lw_m1 218 rfl) rfl
theorem q237 : (Jvm.Cond.code ({ cls := "DeriveTreeModel", name := "below", desc := "(II)Z" } : Jvm.MethodName) prog_3_method_13_code (5 : Nat) (Option.some Jvm.ClassFile.FieldType.boolean)) ∈ lw_all := lw_g (lw_at lw_m1 219 rfl) rfl
theorem q239 : (Jvm.Cond.instanceMethod ({ cls := "DeriveTreeModel", name := "piece", desc := "(I)I" } : Jvm.MethodName)) ∈ lw_all := lw_g (lw_at lw_m1 221 rfl) rfl
theorem q240 : (Jvm.Cond.selects "DeriveTreeModel" ({ cls := "DeriveTreeModel", name := "piece", desc := "(I)I" } : Jvm.MethodName) ({ cls := "DeriveTreeModel", name := "piece", desc := "(I)I" } : Jvm.MethodName)) ∈ lw_all := lw_g (lw_at lw_m1 222 rfl) rfl
theorem q241 : (Jvm.Cond.code ({ cls := "DeriveTreeModel", name := "piece", desc := "(I)I" } : Jvm.MethodName) prog_3_method_15_code (2 : Nat) (Option.some Jvm.ClassFile.FieldType.int)) ∈ lw_all := lw_g (lw_at lw_m1 223 rfl) rfl
theorem q243 : (Jvm.Cond.instanceMethod ({ cls := "DeriveTreeModel", name := "rights", desc := "(I)I" } : Jvm.MethodName)) ∈ lw_all := lw_g (lw_at lw_m1 225 rfl) rfl
theorem q244 : (Jvm.Cond.selects "DeriveTreeModel" ({ cls := "DeriveTreeModel", name := "rights", desc := "(I)I" } : Jvm.MethodName) ({ cls := "DeriveTreeModel", name := "rights", desc := "(I)I" } : Jvm.MethodName)) ∈ lw_all := lw_g (lw_at lw_m1 226 rfl) rfl
theorem q245 : (Jvm.Cond.code ({ cls := "DeriveTreeModel", name := "rights", desc := "(I)I" } : Jvm.MethodName) prog_3_method_16_code (2 : Nat) (Option.some Jvm.ClassFile.FieldType.int)) ∈ lw_all := lw_g (lw_at lw_m1 227 rfl) rfl
theorem q247 : (Jvm.Cond.instanceMethod ({ cls := "DeriveTreeModel", name := "room", desc := "(I)I" } : Jvm.MethodName)) ∈ lw_all := lw_g (lw_at lw_m1 229 rfl) rfl
theorem q248 : (Jvm.Cond.selects "DeriveTreeModel" ({ cls := "DeriveTreeModel", name := "room", desc := "(I)I" } : Jvm.MethodName) ({ cls := "DeriveTreeModel", name := "room", desc := "(I)I" } : Jvm.MethodName)) ∈ lw_all := lw_g (lw_at lw_m1 230 rfl) rfl
theorem q249 : (Jvm.Cond.code ({ cls := "DeriveTreeModel", name := "room", desc := "(I)I" } : Jvm.MethodName) prog_3_method_17_code (2 : Nat) (Option.some Jvm.ClassFile.FieldType.int)) ∈ lw_all := lw_g (lw_at lw_m1 231 rfl) rfl
theorem q251 : (Jvm.Cond.instanceMethod ({ cls := "DeriveTreeModel", name := "descends", desc := "(II)I" } : Jvm.MethodName)) ∈ lw_all := lw_g (lw_at lw_m1 233 rfl) rfl
theorem q252 : (Jvm.Cond.selects "DeriveTreeModel" ({ cls := "DeriveTreeModel", name := "descends", desc := "(II)I" } : Jvm.MethodName) ({ cls := "DeriveTreeModel", name := "descends", desc := "(II)I" } : Jvm.MethodName)) ∈ lw_all := lw_g (lw_at lw_m1 234 rfl) rfl
theorem q253 : (Jvm.Cond.code ({ cls := "DeriveTreeModel", name := "descends", desc := "(II)I" } : Jvm.MethodName) prog_3_method_18_code (3 : Nat) (Option.some Jvm.ClassFile.FieldType.int)) ∈ lw_all := lw_g (lw_at lw_m1 235 rfl) rfl
theorem q255 : (Jvm.Cond.instanceMethod ({ cls := "DeriveTreeModel", name := "descendants", desc := "(I)I" } : Jvm.MethodName)) ∈ lw_all := lw_g (lw_at lw_m1 237 rfl) rfl
theorem q256 : (Jvm.Cond.selects "DeriveTreeModel" ({ cls := "DeriveTreeModel", name := "descendants", desc := "(I)I" } : Jvm.MethodName) ({ cls := "DeriveTreeModel", name := "descendants", desc := "(I)I" } : Jvm.MethodName)) ∈ lw_all := lw_g (lw_at lw_m1 238 rfl) rfl
theorem q257 : (Jvm.Cond.code ({ cls := "DeriveTreeModel", name := "descendants", desc := "(I)I" } : Jvm.MethodName) prog_3_method_19_code (4 : Nat) (Option.some Jvm.ClassFile.FieldType.int)) ∈ lw_all := lw_g (lw_at lw_m1 239 rfl) rfl
theorem q259 : (Jvm.Cond.instanceMethod ({ cls := "DeriveTreeModel", name := "keys", desc := "()I" } : Jvm.MethodName)) ∈ lw_all := lw_g (lw_at lw_m2 1 rfl) rfl
theorem q260 : (Jvm.Cond.selects "DeriveTreeModel" ({ cls := "DeriveTreeModel", name := "keys", desc := "()I" } : Jvm.MethodName) ({ cls := "DeriveTreeModel", name := "keys", desc := "()I" } : Jvm.MethodName)) ∈ lw_all := lw_g (lw_at lw_m2 2 rfl) rfl
theorem q261 : (Jvm.Cond.code ({ cls := "DeriveTreeModel", name := "keys", desc := "()I" } : Jvm.MethodName) prog_3_method_20_code (3 : Nat) (Option.some Jvm.ClassFile.FieldType.int)) ∈ lw_all := lw_g (lw_at lw_m2 3 rfl) rfl
theorem in_X1 : ∀ w ∈ wsX10, w ∈ lw_all := lw_in wsX10 [164, 166, 168, 170, 172, 174, 176, 178, 180, 182] (by decide +kernel) (by decide +kernel)
/-! the law's own entry -/
abbrev cL_law : ByteArray := code
end
section
set_option maxRecDepth 100000
theorem dX0_init_0 : decode cX0_init 0 = .ok (.aload_n 0, 1) := by decide +kernel
theorem dX0_init_1 : decode cX0_init 1 = .ok (.invokespecial 1, 3) := by decide +kernel
theorem dX0_init_4 : decode cX0_init 4 = .ok (.aload_n 0, 1) := by decide +kernel
theorem dX0_init_5 : decode cX0_init 5 = .ok (.bipush 16, 2) := by decide +kernel
theorem dX0_init_7 : decode cX0_init 7 = .ok (.newarray .int, 2) := by decide +kernel
theorem dX0_init_9 : decode cX0_init 9 = .ok (.putfield 7, 3) := by decide +kernel
theorem dX0_init_12 : decode cX0_init 12 = .ok (.aload_n 0, 1) := by decide +kernel
theorem dX0_init_13 : decode cX0_init 13 = .ok (.bipush 16, 2) := by decide +kernel
theorem dX0_init_15 : decode cX0_init 15 = .ok (.newarray .int, 2) := by decide +kernel
theorem dX0_init_17 : decode cX0_init 17 = .ok (.putfield 13, 3) := by decide +kernel
theorem dX0_init_20 : decode cX0_init 20 = .ok (.aload_n 0, 1) := by decide +kernel
theorem dX0_init_21 : decode cX0_init 21 = .ok (.bipush 16, 2) := by decide +kernel
theorem dX0_init_23 : decode cX0_init 23 = .ok (.newarray .int, 2) := by decide +kernel
theorem dX0_init_25 : decode cX0_init 25 = .ok (.putfield 16, 3) := by decide +kernel
theorem dX0_init_28 : decode cX0_init 28 = .ok (.aload_n 0, 1) := by decide +kernel
theorem dX0_init_29 : decode cX0_init 29 = .ok (.bipush 16, 2) := by decide +kernel
theorem dX0_init_31 : decode cX0_init 31 = .ok (.newarray .int, 2) := by decide +kernel
theorem dX0_init_33 : decode cX0_init 33 = .ok (.putfield 19, 3) := by decide +kernel
theorem dX0_init_36 : decode cX0_init 36 = .ok (.aload_n 0, 1) := by decide +kernel
theorem dX0_init_37 : decode cX0_init 37 = .ok (.bipush 16, 2) := by decide +kernel
theorem dX0_init_39 : decode cX0_init 39 = .ok (.newarray .int, 2) := by decide +kernel
theorem dX0_init_41 : decode cX0_init 41 = .ok (.putfield 22, 3) := by decide +kernel
theorem dX0_init_44 : decode cX0_init 44 = .ok (.aload_n 0, 1) := by decide +kernel
theorem dX0_init_45 : decode cX0_init 45 = .ok (.bipush 16, 2) := by decide +kernel
theorem dX0_init_47 : decode cX0_init 47 = .ok (.newarray .int, 2) := by decide +kernel
theorem dX0_init_49 : decode cX0_init 49 = .ok (.putfield 25, 3) := by decide +kernel
theorem dX0_init_52 : decode cX0_init 52 = .ok (.aload_n 0, 1) := by decide +kernel
theorem dX0_init_53 : decode cX0_init 53 = .ok (.bipush 16, 2) := by decide +kernel
theorem dX0_init_55 : decode cX0_init 55 = .ok (.newarray .int, 2) := by decide +kernel
theorem dX0_init_57 : decode cX0_init 57 = .ok (.putfield 28, 3) := by decide +kernel
theorem dX0_init_60 : decode cX0_init 60 = .ok (.aload_n 0, 1) := by decide +kernel
theorem dX0_init_61 : decode cX0_init 61 = .ok (.bipush 16, 2) := by decide +kernel
theorem dX0_init_63 : decode cX0_init 63 = .ok (.newarray .int, 2) := by decide +kernel
theorem dX0_init_65 : decode cX0_init 65 = .ok (.putfield 31, 3) := by decide +kernel
theorem dX0_init_68 : decode cX0_init 68 = .ok (.aload_n 0, 1) := by decide +kernel
theorem dX0_init_69 : decode cX0_init 69 = .ok (.bipush 16, 2) := by decide +kernel
theorem dX0_init_71 : decode cX0_init 71 = .ok (.newarray .int, 2) := by decide +kernel
theorem dX0_init_73 : decode cX0_init 73 = .ok (.putfield 34, 3) := by decide +kernel
theorem dX0_init_76 : decode cX0_init 76 = .ok (.iconst 0, 1) := by decide +kernel
theorem dX0_init_77 : decode cX0_init 77 = .ok (.istore_n 1, 1) := by decide +kernel
theorem dX0_init_78 : decode cX0_init 78 = .ok (.iload_n 1, 1) := by decide +kernel
theorem dX0_init_79 : decode cX0_init 79 = .ok (.bipush 16, 2) := by decide +kernel
theorem dX0_init_81 : decode cX0_init 81 = .ok (.if_icmp .ge 16, 3) := by decide +kernel
theorem dX0_init_84 : decode cX0_init 84 = .ok (.aload_n 0, 1) := by decide +kernel
theorem dX0_init_85 : decode cX0_init 85 = .ok (.getfield 31, 3) := by decide +kernel
theorem dX0_init_88 : decode cX0_init 88 = .ok (.iload_n 1, 1) := by decide +kernel
theorem dX0_init_89 : decode cX0_init 89 = .ok (.iconst (-1), 1) := by decide +kernel
theorem dX0_init_90 : decode cX0_init 90 = .ok (.iastore, 1) := by decide +kernel
theorem dX0_init_91 : decode cX0_init 91 = .ok (.iinc 1 1, 3) := by decide +kernel
theorem dX0_init_94 : decode cX0_init 94 = .ok (.goto (-16), 3) := by decide +kernel
theorem dX0_init_97 : decode cX0_init 97 = .ok (.aload_n 0, 1) := by decide +kernel
theorem dX0_init_98 : decode cX0_init 98 = .ok (.getfield 31, 3) := by decide +kernel
theorem dX0_init_101 : decode cX0_init 101 = .ok (.iconst 0, 1) := by decide +kernel
theorem dX0_init_102 : decode cX0_init 102 = .ok (.iconst 0, 1) := by decide +kernel
theorem dX0_init_103 : decode cX0_init 103 = .ok (.iastore, 1) := by decide +kernel
theorem dX0_init_104 : decode cX0_init 104 = .ok (.aload_n 0, 1) := by decide +kernel
theorem dX0_init_105 : decode cX0_init 105 = .ok (.getfield 34, 3) := by decide +kernel
theorem dX0_init_108 : decode cX0_init 108 = .ok (.iconst 0, 1) := by decide +kernel
theorem dX0_init_109 : decode cX0_init 109 = .ok (.bipush 7, 2) := by decide +kernel
theorem dX0_init_111 : decode cX0_init 111 = .ok (.iastore, 1) := by decide +kernel
theorem dX0_init_112 : decode cX0_init 112 = .ok (.aload_n 0, 1) := by decide +kernel
theorem dX0_init_113 : decode cX0_init 113 = .ok (.getfield 13, 3) := by decide +kernel
theorem dX0_init_116 : decode cX0_init 116 = .ok (.iconst 0, 1) := by decide +kernel
theorem dX0_init_117 : decode cX0_init 117 = .ok (.bipush 64, 2) := by decide +kernel
theorem dX0_init_119 : decode cX0_init 119 = .ok (.iastore, 1) := by decide +kernel
theorem dX0_init_120 : decode cX0_init 120 = .ok (.aload_n 0, 1) := by decide +kernel
theorem dX0_init_121 : decode cX0_init 121 = .ok (.getfield 19, 3) := by decide +kernel
theorem dX0_init_124 : decode cX0_init 124 = .ok (.iconst 0, 1) := by decide +kernel
theorem dX0_init_125 : decode cX0_init 125 = .ok (.iconst 1, 1) := by decide +kernel
theorem dX0_init_126 : decode cX0_init 126 = .ok (.iastore, 1) := by decide +kernel
theorem dX0_init_127 : decode cX0_init 127 = .ok (.aload_n 0, 1) := by decide +kernel
theorem dX0_init_128 : decode cX0_init 128 = .ok (.iconst 1, 1) := by decide +kernel
theorem dX0_init_129 : decode cX0_init 129 = .ok (.putfield 37, 3) := by decide +kernel
theorem dX0_init_132 : decode cX0_init 132 = .ok (.aload_n 0, 1) := by decide +kernel
theorem dX0_init_133 : decode cX0_init 133 = .ok (.iconst 1, 1) := by decide +kernel
theorem dX0_init_134 : decode cX0_init 134 = .ok (.putfield 41, 3) := by decide +kernel
theorem dX0_init_137 : decode cX0_init 137 = .ok (.return_, 1) := by decide +kernel
theorem dX0_split_0 : decode cX0_split 0 = .ok (.aload_n 0, 1) := by decide +kernel
theorem dX0_split_1 : decode cX0_split 1 = .ok (.iload_n 1, 1) := by decide +kernel
theorem dX0_split_2 : decode cX0_split 2 = .ok (.invokevirtual 44, 3) := by decide +kernel
theorem dX0_split_5 : decode cX0_split 5 = .ok (.ifCond .eq 16, 3) := by decide +kernel
theorem dX0_split_8 : decode cX0_split 8 = .ok (.aload_n 0, 1) := by decide +kernel
theorem dX0_split_9 : decode cX0_split 9 = .ok (.iload_n 2, 1) := by decide +kernel
theorem dX0_split_10 : decode cX0_split 10 = .ok (.invokevirtual 48, 3) := by decide +kernel
theorem dX0_split_13 : decode cX0_split 13 = .ok (.ifCond .eq 8, 3) := by decide +kernel
theorem dX0_split_16 : decode cX0_split 16 = .ok (.iload_n 3, 1) := by decide +kernel
theorem dX0_split_17 : decode cX0_split 17 = .ok (.iconst 1, 1) := by decide +kernel
theorem dX0_split_18 : decode cX0_split 18 = .ok (.if_icmp .ge 5, 3) := by decide +kernel
theorem dX0_split_21 : decode cX0_split 21 = .ok (.iconst (-1), 1) := by decide +kernel
theorem dX0_split_22 : decode cX0_split 22 = .ok (.ireturn, 1) := by decide +kernel
theorem dX0_split_23 : decode cX0_split 23 = .ok (.aload_n 0, 1) := by decide +kernel
theorem dX0_split_24 : decode cX0_split 24 = .ok (.getfield 31, 3) := by decide +kernel
theorem dX0_split_27 : decode cX0_split 27 = .ok (.iload_n 1, 1) := by decide +kernel
theorem dX0_split_28 : decode cX0_split 28 = .ok (.iaload, 1) := by decide +kernel
theorem dX0_split_29 : decode cX0_split 29 = .ok (.istore 4, 2) := by decide +kernel
theorem dX0_split_31 : decode cX0_split 31 = .ok (.iload_n 3, 1) := by decide +kernel
theorem dX0_split_32 : decode cX0_split 32 = .ok (.aload_n 0, 1) := by decide +kernel
theorem dX0_split_33 : decode cX0_split 33 = .ok (.getfield 13, 3) := by decide +kernel
theorem dX0_split_36 : decode cX0_split 36 = .ok (.iload 4, 2) := by decide +kernel
theorem dX0_split_38 : decode cX0_split 38 = .ok (.iaload, 1) := by decide +kernel
theorem dX0_split_39 : decode cX0_split 39 = .ok (.aload_n 0, 1) := by decide +kernel
theorem dX0_split_40 : decode cX0_split 40 = .ok (.getfield 16, 3) := by decide +kernel
theorem dX0_split_43 : decode cX0_split 43 = .ok (.iload 4, 2) := by decide +kernel
theorem dX0_split_45 : decode cX0_split 45 = .ok (.iaload, 1) := by decide +kernel
theorem dX0_split_46 : decode cX0_split 46 = .ok (.isub, 1) := by decide +kernel
theorem dX0_split_47 : decode cX0_split 47 = .ok (.if_icmp .le 5, 3) := by decide +kernel
theorem dX0_split_50 : decode cX0_split 50 = .ok (.iconst (-1), 1) := by decide +kernel
theorem dX0_split_51 : decode cX0_split 51 = .ok (.ireturn, 1) := by decide +kernel
theorem dX0_split_52 : decode cX0_split 52 = .ok (.aload_n 0, 1) := by decide +kernel
theorem dX0_split_53 : decode cX0_split 53 = .ok (.invokevirtual 51, 3) := by decide +kernel
theorem dX0_split_56 : decode cX0_split 56 = .ok (.istore 5, 2) := by decide +kernel
theorem dX0_split_58 : decode cX0_split 58 = .ok (.aload_n 0, 1) := by decide +kernel
theorem dX0_split_59 : decode cX0_split 59 = .ok (.getfield 7, 3) := by decide +kernel
theorem dX0_split_62 : decode cX0_split 62 = .ok (.iload 5, 2) := by decide +kernel
theorem dX0_split_64 : decode cX0_split 64 = .ok (.aload_n 0, 1) := by decide +kernel
theorem dX0_split_65 : decode cX0_split 65 = .ok (.getfield 7, 3) := by decide +kernel
theorem dX0_split_68 : decode cX0_split 68 = .ok (.iload 4, 2) := by decide +kernel
theorem dX0_split_70 : decode cX0_split 70 = .ok (.iaload, 1) := by decide +kernel
theorem dX0_split_71 : decode cX0_split 71 = .ok (.aload_n 0, 1) := by decide +kernel
theorem dX0_split_72 : decode cX0_split 72 = .ok (.getfield 16, 3) := by decide +kernel
theorem dX0_split_75 : decode cX0_split 75 = .ok (.iload 4, 2) := by decide +kernel
theorem dX0_split_77 : decode cX0_split 77 = .ok (.iaload, 1) := by decide +kernel
theorem dX0_split_78 : decode cX0_split 78 = .ok (.iadd, 1) := by decide +kernel
theorem dX0_split_79 : decode cX0_split 79 = .ok (.iastore, 1) := by decide +kernel
theorem dX0_split_80 : decode cX0_split 80 = .ok (.aload_n 0, 1) := by decide +kernel
theorem dX0_split_81 : decode cX0_split 81 = .ok (.getfield 13, 3) := by decide +kernel
theorem dX0_split_84 : decode cX0_split 84 = .ok (.iload 5, 2) := by decide +kernel
theorem dX0_split_86 : decode cX0_split 86 = .ok (.iload_n 3, 1) := by decide +kernel
theorem dX0_split_87 : decode cX0_split 87 = .ok (.iastore, 1) := by decide +kernel
theorem dX0_split_88 : decode cX0_split 88 = .ok (.aload_n 0, 1) := by decide +kernel
theorem dX0_split_89 : decode cX0_split 89 = .ok (.getfield 16, 3) := by decide +kernel
theorem dX0_split_92 : decode cX0_split 92 = .ok (.iload 5, 2) := by decide +kernel
theorem dX0_split_94 : decode cX0_split 94 = .ok (.iconst 0, 1) := by decide +kernel
theorem dX0_split_95 : decode cX0_split 95 = .ok (.iastore, 1) := by decide +kernel
theorem dX0_split_96 : decode cX0_split 96 = .ok (.aload_n 0, 1) := by decide +kernel
theorem dX0_split_97 : decode cX0_split 97 = .ok (.getfield 19, 3) := by decide +kernel
theorem dX0_split_100 : decode cX0_split 100 = .ok (.iload 5, 2) := by decide +kernel
theorem dX0_split_102 : decode cX0_split 102 = .ok (.iconst 0, 1) := by decide +kernel
theorem dX0_split_103 : decode cX0_split 103 = .ok (.iastore, 1) := by decide +kernel
theorem dX0_split_104 : decode cX0_split 104 = .ok (.aload_n 0, 1) := by decide +kernel
theorem dX0_split_105 : decode cX0_split 105 = .ok (.getfield 22, 3) := by decide +kernel
theorem dX0_split_108 : decode cX0_split 108 = .ok (.iload 5, 2) := by decide +kernel
theorem dX0_split_110 : decode cX0_split 110 = .ok (.aload_n 0, 1) := by decide +kernel
theorem dX0_split_111 : decode cX0_split 111 = .ok (.getfield 37, 3) := by decide +kernel
theorem dX0_split_114 : decode cX0_split 114 = .ok (.iastore, 1) := by decide +kernel
theorem dX0_split_115 : decode cX0_split 115 = .ok (.aload_n 0, 1) := by decide +kernel
theorem dX0_split_116 : decode cX0_split 116 = .ok (.dup, 1) := by decide +kernel
theorem dX0_split_117 : decode cX0_split 117 = .ok (.getfield 37, 3) := by decide +kernel
theorem dX0_split_120 : decode cX0_split 120 = .ok (.iconst 1, 1) := by decide +kernel
theorem dX0_split_121 : decode cX0_split 121 = .ok (.iadd, 1) := by decide +kernel
theorem dX0_split_122 : decode cX0_split 122 = .ok (.putfield 37, 3) := by decide +kernel
theorem dX0_split_125 : decode cX0_split 125 = .ok (.aload_n 0, 1) := by decide +kernel
theorem dX0_split_126 : decode cX0_split 126 = .ok (.getfield 16, 3) := by decide +kernel
theorem dX0_split_129 : decode cX0_split 129 = .ok (.iload 4, 2) := by decide +kernel
theorem dX0_split_131 : decode cX0_split 131 = .ok (.dup2, 1) := by decide +kernel
theorem dX0_split_132 : decode cX0_split 132 = .ok (.iaload, 1) := by decide +kernel
theorem dX0_split_133 : decode cX0_split 133 = .ok (.iload_n 3, 1) := by decide +kernel
theorem dX0_split_134 : decode cX0_split 134 = .ok (.iadd, 1) := by decide +kernel
theorem dX0_split_135 : decode cX0_split 135 = .ok (.iastore, 1) := by decide +kernel
theorem dX0_split_136 : decode cX0_split 136 = .ok (.aload_n 0, 1) := by decide +kernel
theorem dX0_split_137 : decode cX0_split 137 = .ok (.iload_n 1, 1) := by decide +kernel
theorem dX0_split_138 : decode cX0_split 138 = .ok (.iload_n 2, 1) := by decide +kernel
theorem dX0_split_139 : decode cX0_split 139 = .ok (.iload 5, 2) := by decide +kernel
theorem dX0_split_141 : decode cX0_split 141 = .ok (.aload_n 0, 1) := by decide +kernel
theorem dX0_split_142 : decode cX0_split 142 = .ok (.getfield 34, 3) := by decide +kernel
theorem dX0_split_145 : decode cX0_split 145 = .ok (.iload_n 1, 1) := by decide +kernel
theorem dX0_split_146 : decode cX0_split 146 = .ok (.iaload, 1) := by decide +kernel
theorem dX0_split_147 : decode cX0_split 147 = .ok (.invokevirtual 55, 3) := by decide +kernel
theorem dX0_split_150 : decode cX0_split 150 = .ok (.aload_n 0, 1) := by decide +kernel
theorem dX0_split_151 : decode cX0_split 151 = .ok (.getfield 7, 3) := by decide +kernel
theorem dX0_split_154 : decode cX0_split 154 = .ok (.iload 5, 2) := by decide +kernel
theorem dX0_split_156 : decode cX0_split 156 = .ok (.iaload, 1) := by decide +kernel
theorem dX0_split_157 : decode cX0_split 157 = .ok (.ireturn, 1) := by decide +kernel
theorem dX0_isHeld_0 : decode cX0_isHeld 0 = .ok (.iload_n 1, 1) := by decide +kernel
theorem dX0_isHeld_1 : decode cX0_isHeld 1 = .ok (.ifCond .lt 22, 3) := by decide +kernel
theorem dX0_isHeld_4 : decode cX0_isHeld 4 = .ok (.iload_n 1, 1) := by decide +kernel
theorem dX0_isHeld_5 : decode cX0_isHeld 5 = .ok (.bipush 15, 2) := by decide +kernel
theorem dX0_isHeld_7 : decode cX0_isHeld 7 = .ok (.if_icmp .gt 16, 3) := by decide +kernel
theorem dX0_isHeld_10 : decode cX0_isHeld 10 = .ok (.aload_n 0, 1) := by decide +kernel
theorem dX0_isHeld_11 : decode cX0_isHeld 11 = .ok (.getfield 31, 3) := by decide +kernel
theorem dX0_isHeld_14 : decode cX0_isHeld 14 = .ok (.iload_n 1, 1) := by decide +kernel
theorem dX0_isHeld_15 : decode cX0_isHeld 15 = .ok (.iaload, 1) := by decide +kernel
theorem dX0_isHeld_16 : decode cX0_isHeld 16 = .ok (.ifCond .lt 7, 3) := by decide +kernel
theorem dX0_isHeld_19 : decode cX0_isHeld 19 = .ok (.iconst 1, 1) := by decide +kernel
theorem dX0_isHeld_20 : decode cX0_isHeld 20 = .ok (.goto 4, 3) := by decide +kernel
theorem dX0_isHeld_23 : decode cX0_isHeld 23 = .ok (.iconst 0, 1) := by decide +kernel
theorem dX0_isHeld_24 : decode cX0_isHeld 24 = .ok (.ireturn, 1) := by decide +kernel
theorem dX0_isFree_0 : decode cX0_isFree 0 = .ok (.iload_n 1, 1) := by decide +kernel
theorem dX0_isFree_1 : decode cX0_isFree 1 = .ok (.ifCond .lt 22, 3) := by decide +kernel
theorem dX0_isFree_4 : decode cX0_isFree 4 = .ok (.iload_n 1, 1) := by decide +kernel
theorem dX0_isFree_5 : decode cX0_isFree 5 = .ok (.bipush 15, 2) := by decide +kernel
theorem dX0_isFree_7 : decode cX0_isFree 7 = .ok (.if_icmp .gt 16, 3) := by decide +kernel
theorem dX0_isFree_10 : decode cX0_isFree 10 = .ok (.aload_n 0, 1) := by decide +kernel
theorem dX0_isFree_11 : decode cX0_isFree 11 = .ok (.getfield 31, 3) := by decide +kernel
theorem dX0_isFree_14 : decode cX0_isFree 14 = .ok (.iload_n 1, 1) := by decide +kernel
theorem dX0_isFree_15 : decode cX0_isFree 15 = .ok (.iaload, 1) := by decide +kernel
theorem dX0_isFree_16 : decode cX0_isFree 16 = .ok (.ifCond .ge 7, 3) := by decide +kernel
theorem dX0_isFree_19 : decode cX0_isFree 19 = .ok (.iconst 1, 1) := by decide +kernel
theorem dX0_isFree_20 : decode cX0_isFree 20 = .ok (.goto 4, 3) := by decide +kernel
theorem dX0_isFree_23 : decode cX0_isFree 23 = .ok (.iconst 0, 1) := by decide +kernel
theorem dX0_isFree_24 : decode cX0_isFree 24 = .ok (.ireturn, 1) := by decide +kernel
theorem dX0_freePiece_0 : decode cX0_freePiece 0 = .ok (.iconst 0, 1) := by decide +kernel
theorem dX0_freePiece_1 : decode cX0_freePiece 1 = .ok (.istore_n 1, 1) := by decide +kernel
theorem dX0_freePiece_2 : decode cX0_freePiece 2 = .ok (.bipush 15, 2) := by decide +kernel
theorem dX0_freePiece_4 : decode cX0_freePiece 4 = .ok (.istore_n 2, 1) := by decide +kernel
theorem dX0_freePiece_5 : decode cX0_freePiece 5 = .ok (.iload_n 2, 1) := by decide +kernel
theorem dX0_freePiece_6 : decode cX0_freePiece 6 = .ok (.ifCond .lt 24, 3) := by decide +kernel
theorem dX0_freePiece_9 : decode cX0_freePiece 9 = .ok (.aload_n 0, 1) := by decide +kernel
theorem dX0_freePiece_10 : decode cX0_freePiece 10 = .ok (.getfield 19, 3) := by decide +kernel
theorem dX0_freePiece_13 : decode cX0_freePiece 13 = .ok (.iload_n 2, 1) := by decide +kernel
theorem dX0_freePiece_14 : decode cX0_freePiece 14 = .ok (.iaload, 1) := by decide +kernel
theorem dX0_freePiece_15 : decode cX0_freePiece 15 = .ok (.ifCond .ne 7, 3) := by decide +kernel
theorem dX0_freePiece_18 : decode cX0_freePiece 18 = .ok (.iload_n 2, 1) := by decide +kernel
theorem dX0_freePiece_19 : decode cX0_freePiece 19 = .ok (.goto 4, 3) := by decide +kernel
theorem dX0_freePiece_22 : decode cX0_freePiece 22 = .ok (.iload_n 1, 1) := by decide +kernel
theorem dX0_freePiece_23 : decode cX0_freePiece 23 = .ok (.istore_n 1, 1) := by decide +kernel
theorem dX0_freePiece_24 : decode cX0_freePiece 24 = .ok (.iinc 2 (-1), 3) := by decide +kernel
theorem dX0_freePiece_27 : decode cX0_freePiece 27 = .ok (.goto (-22), 3) := by decide +kernel
theorem dX0_freePiece_30 : decode cX0_freePiece 30 = .ok (.iload_n 1, 1) := by decide +kernel
theorem dX0_freePiece_31 : decode cX0_freePiece 31 = .ok (.ireturn, 1) := by decide +kernel
theorem dX0_putKey_0 : decode cX0_putKey 0 = .ok (.aload_n 0, 1) := by decide +kernel
theorem dX0_putKey_1 : decode cX0_putKey 1 = .ok (.iload_n 1, 1) := by decide +kernel
theorem dX0_putKey_2 : decode cX0_putKey 2 = .ok (.invokevirtual 59, 3) := by decide +kernel
theorem dX0_putKey_5 : decode cX0_putKey 5 = .ok (.iconst 1, 1) := by decide +kernel
theorem dX0_putKey_6 : decode cX0_putKey 6 = .ok (.iadd, 1) := by decide +kernel
theorem dX0_putKey_7 : decode cX0_putKey 7 = .ok (.istore 5, 2) := by decide +kernel
theorem dX0_putKey_9 : decode cX0_putKey 9 = .ok (.aload_n 0, 1) := by decide +kernel
theorem dX0_putKey_10 : decode cX0_putKey 10 = .ok (.getfield 41, 3) := by decide +kernel
theorem dX0_putKey_13 : decode cX0_putKey 13 = .ok (.istore 6, 2) := by decide +kernel
theorem dX0_putKey_15 : decode cX0_putKey 15 = .ok (.iload 6, 2) := by decide +kernel
theorem dX0_putKey_17 : decode cX0_putKey 17 = .ok (.iload 5, 2) := by decide +kernel
theorem dX0_putKey_19 : decode cX0_putKey 19 = .ok (.if_icmp .le 41, 3) := by decide +kernel
theorem dX0_putKey_22 : decode cX0_putKey 22 = .ok (.aload_n 0, 1) := by decide +kernel
theorem dX0_putKey_23 : decode cX0_putKey 23 = .ok (.getfield 25, 3) := by decide +kernel
theorem dX0_putKey_26 : decode cX0_putKey 26 = .ok (.iload 6, 2) := by decide +kernel
theorem dX0_putKey_28 : decode cX0_putKey 28 = .ok (.aload_n 0, 1) := by decide +kernel
theorem dX0_putKey_29 : decode cX0_putKey 29 = .ok (.getfield 25, 3) := by decide +kernel
theorem dX0_putKey_32 : decode cX0_putKey 32 = .ok (.iload 6, 2) := by decide +kernel
theorem dX0_putKey_34 : decode cX0_putKey 34 = .ok (.iconst 1, 1) := by decide +kernel
theorem dX0_putKey_35 : decode cX0_putKey 35 = .ok (.isub, 1) := by decide +kernel
theorem dX0_putKey_36 : decode cX0_putKey 36 = .ok (.iaload, 1) := by decide +kernel
theorem dX0_putKey_37 : decode cX0_putKey 37 = .ok (.iastore, 1) := by decide +kernel
theorem dX0_putKey_38 : decode cX0_putKey 38 = .ok (.aload_n 0, 1) := by decide +kernel
theorem dX0_putKey_39 : decode cX0_putKey 39 = .ok (.getfield 28, 3) := by decide +kernel
theorem dX0_putKey_42 : decode cX0_putKey 42 = .ok (.iload 6, 2) := by decide +kernel
theorem dX0_putKey_44 : decode cX0_putKey 44 = .ok (.aload_n 0, 1) := by decide +kernel
theorem dX0_putKey_45 : decode cX0_putKey 45 = .ok (.getfield 28, 3) := by decide +kernel
theorem dX0_putKey_48 : decode cX0_putKey 48 = .ok (.iload 6, 2) := by decide +kernel
theorem dX0_putKey_50 : decode cX0_putKey 50 = .ok (.iconst 1, 1) := by decide +kernel
theorem dX0_putKey_51 : decode cX0_putKey 51 = .ok (.isub, 1) := by decide +kernel
theorem dX0_putKey_52 : decode cX0_putKey 52 = .ok (.iaload, 1) := by decide +kernel
theorem dX0_putKey_53 : decode cX0_putKey 53 = .ok (.iastore, 1) := by decide +kernel
theorem dX0_putKey_54 : decode cX0_putKey 54 = .ok (.iinc 6 (-1), 3) := by decide +kernel
theorem dX0_putKey_57 : decode cX0_putKey 57 = .ok (.goto (-42), 3) := by decide +kernel
theorem dX0_putKey_60 : decode cX0_putKey 60 = .ok (.aload_n 0, 1) := by decide +kernel
theorem dX0_putKey_61 : decode cX0_putKey 61 = .ok (.getfield 25, 3) := by decide +kernel
theorem dX0_putKey_64 : decode cX0_putKey 64 = .ok (.iload 5, 2) := by decide +kernel
theorem dX0_putKey_66 : decode cX0_putKey 66 = .ok (.iload_n 2, 1) := by decide +kernel
theorem dX0_putKey_67 : decode cX0_putKey 67 = .ok (.iastore, 1) := by decide +kernel
theorem dX0_putKey_68 : decode cX0_putKey 68 = .ok (.aload_n 0, 1) := by decide +kernel
theorem dX0_putKey_69 : decode cX0_putKey 69 = .ok (.getfield 28, 3) := by decide +kernel
theorem dX0_putKey_72 : decode cX0_putKey 72 = .ok (.iload 5, 2) := by decide +kernel
theorem dX0_putKey_74 : decode cX0_putKey 74 = .ok (.aload_n 0, 1) := by decide +kernel
theorem dX0_putKey_75 : decode cX0_putKey 75 = .ok (.getfield 28, 3) := by decide +kernel
theorem dX0_putKey_78 : decode cX0_putKey 78 = .ok (.iload 5, 2) := by decide +kernel
theorem dX0_putKey_80 : decode cX0_putKey 80 = .ok (.iconst 1, 1) := by decide +kernel
theorem dX0_putKey_81 : decode cX0_putKey 81 = .ok (.isub, 1) := by decide +kernel
theorem dX0_putKey_82 : decode cX0_putKey 82 = .ok (.iaload, 1) := by decide +kernel
theorem dX0_putKey_83 : decode cX0_putKey 83 = .ok (.iconst 1, 1) := by decide +kernel
theorem dX0_putKey_84 : decode cX0_putKey 84 = .ok (.iadd, 1) := by decide +kernel
theorem dX0_putKey_85 : decode cX0_putKey 85 = .ok (.iastore, 1) := by decide +kernel
theorem dX0_putKey_86 : decode cX0_putKey 86 = .ok (.aload_n 0, 1) := by decide +kernel
theorem dX0_putKey_87 : decode cX0_putKey 87 = .ok (.dup, 1) := by decide +kernel
theorem dX0_putKey_88 : decode cX0_putKey 88 = .ok (.getfield 41, 3) := by decide +kernel
theorem dX0_putKey_91 : decode cX0_putKey 91 = .ok (.iconst 1, 1) := by decide +kernel
theorem dX0_putKey_92 : decode cX0_putKey 92 = .ok (.iadd, 1) := by decide +kernel
theorem dX0_putKey_93 : decode cX0_putKey 93 = .ok (.putfield 41, 3) := by decide +kernel
theorem dX0_putKey_96 : decode cX0_putKey 96 = .ok (.aload_n 0, 1) := by decide +kernel
theorem dX0_putKey_97 : decode cX0_putKey 97 = .ok (.getfield 31, 3) := by decide +kernel
theorem dX0_putKey_100 : decode cX0_putKey 100 = .ok (.iload_n 2, 1) := by decide +kernel
theorem dX0_putKey_101 : decode cX0_putKey 101 = .ok (.iload_n 3, 1) := by decide +kernel
theorem dX0_putKey_102 : decode cX0_putKey 102 = .ok (.iastore, 1) := by decide +kernel
theorem dX0_putKey_103 : decode cX0_putKey 103 = .ok (.aload_n 0, 1) := by decide +kernel
theorem dX0_putKey_104 : decode cX0_putKey 104 = .ok (.getfield 34, 3) := by decide +kernel
theorem dX0_putKey_107 : decode cX0_putKey 107 = .ok (.iload_n 2, 1) := by decide +kernel
theorem dX0_putKey_108 : decode cX0_putKey 108 = .ok (.iload 4, 2) := by decide +kernel
theorem dX0_putKey_110 : decode cX0_putKey 110 = .ok (.iastore, 1) := by decide +kernel
theorem dX0_putKey_111 : decode cX0_putKey 111 = .ok (.aload_n 0, 1) := by decide +kernel
theorem dX0_putKey_112 : decode cX0_putKey 112 = .ok (.getfield 19, 3) := by decide +kernel
theorem dX0_putKey_115 : decode cX0_putKey 115 = .ok (.iload_n 3, 1) := by decide +kernel
theorem dX0_putKey_116 : decode cX0_putKey 116 = .ok (.dup2, 1) := by decide +kernel
theorem dX0_putKey_117 : decode cX0_putKey 117 = .ok (.iaload, 1) := by decide +kernel
theorem dX0_putKey_118 : decode cX0_putKey 118 = .ok (.iconst 1, 1) := by decide +kernel
theorem dX0_putKey_119 : decode cX0_putKey 119 = .ok (.iadd, 1) := by decide +kernel
theorem dX0_putKey_120 : decode cX0_putKey 120 = .ok (.iastore, 1) := by decide +kernel
theorem dX0_putKey_121 : decode cX0_putKey 121 = .ok (.return_, 1) := by decide +kernel
theorem dX0_placeOf_0 : decode cX0_placeOf 0 = .ok (.iconst 0, 1) := by decide +kernel
theorem dX0_placeOf_1 : decode cX0_placeOf 1 = .ok (.istore_n 2, 1) := by decide +kernel
theorem dX0_placeOf_2 : decode cX0_placeOf 2 = .ok (.iconst 0, 1) := by decide +kernel
theorem dX0_placeOf_3 : decode cX0_placeOf 3 = .ok (.istore_n 3, 1) := by decide +kernel
theorem dX0_placeOf_4 : decode cX0_placeOf 4 = .ok (.iload_n 3, 1) := by decide +kernel
theorem dX0_placeOf_5 : decode cX0_placeOf 5 = .ok (.aload_n 0, 1) := by decide +kernel
theorem dX0_placeOf_6 : decode cX0_placeOf 6 = .ok (.getfield 41, 3) := by decide +kernel
theorem dX0_placeOf_9 : decode cX0_placeOf 9 = .ok (.if_icmp .ge 25, 3) := by decide +kernel
theorem dX0_placeOf_12 : decode cX0_placeOf 12 = .ok (.aload_n 0, 1) := by decide +kernel
theorem dX0_placeOf_13 : decode cX0_placeOf 13 = .ok (.getfield 25, 3) := by decide +kernel
theorem dX0_placeOf_16 : decode cX0_placeOf 16 = .ok (.iload_n 3, 1) := by decide +kernel
theorem dX0_placeOf_17 : decode cX0_placeOf 17 = .ok (.iaload, 1) := by decide +kernel
theorem dX0_placeOf_18 : decode cX0_placeOf 18 = .ok (.iload_n 1, 1) := by decide +kernel
theorem dX0_placeOf_19 : decode cX0_placeOf 19 = .ok (.if_icmp .ne 7, 3) := by decide +kernel
theorem dX0_placeOf_22 : decode cX0_placeOf 22 = .ok (.iload_n 3, 1) := by decide +kernel
theorem dX0_placeOf_23 : decode cX0_placeOf 23 = .ok (.goto 4, 3) := by decide +kernel
theorem dX0_placeOf_26 : decode cX0_placeOf 26 = .ok (.iload_n 2, 1) := by decide +kernel
theorem dX0_placeOf_27 : decode cX0_placeOf 27 = .ok (.istore_n 2, 1) := by decide +kernel
theorem dX0_placeOf_28 : decode cX0_placeOf 28 = .ok (.iinc 3 1, 3) := by decide +kernel
theorem dX0_placeOf_31 : decode cX0_placeOf 31 = .ok (.goto (-27), 3) := by decide +kernel
theorem dX0_placeOf_34 : decode cX0_placeOf 34 = .ok (.iload_n 2, 1) := by decide +kernel
theorem dX0_placeOf_35 : decode cX0_placeOf 35 = .ok (.ireturn, 1) := by decide +kernel
theorem dX0_copy_0 : decode cX0_copy 0 = .ok (.aload_n 0, 1) := by decide +kernel
theorem dX0_copy_1 : decode cX0_copy 1 = .ok (.iload_n 1, 1) := by decide +kernel
theorem dX0_copy_2 : decode cX0_copy 2 = .ok (.invokevirtual 44, 3) := by decide +kernel
theorem dX0_copy_5 : decode cX0_copy 5 = .ok (.ifCond .eq 11, 3) := by decide +kernel
theorem dX0_copy_8 : decode cX0_copy 8 = .ok (.aload_n 0, 1) := by decide +kernel
theorem dX0_copy_9 : decode cX0_copy 9 = .ok (.iload_n 2, 1) := by decide +kernel
theorem dX0_copy_10 : decode cX0_copy 10 = .ok (.invokevirtual 48, 3) := by decide +kernel
theorem dX0_copy_13 : decode cX0_copy 13 = .ok (.ifCond .ne 5, 3) := by decide +kernel
theorem dX0_copy_16 : decode cX0_copy 16 = .ok (.iconst (-1), 1) := by decide +kernel
theorem dX0_copy_17 : decode cX0_copy 17 = .ok (.ireturn, 1) := by decide +kernel
theorem dX0_copy_18 : decode cX0_copy 18 = .ok (.aload_n 0, 1) := by decide +kernel
theorem dX0_copy_19 : decode cX0_copy 19 = .ok (.iload_n 1, 1) := by decide +kernel
theorem dX0_copy_20 : decode cX0_copy 20 = .ok (.iload_n 2, 1) := by decide +kernel
theorem dX0_copy_21 : decode cX0_copy 21 = .ok (.aload_n 0, 1) := by decide +kernel
theorem dX0_copy_22 : decode cX0_copy 22 = .ok (.getfield 31, 3) := by decide +kernel
theorem dX0_copy_25 : decode cX0_copy 25 = .ok (.iload_n 1, 1) := by decide +kernel
theorem dX0_copy_26 : decode cX0_copy 26 = .ok (.iaload, 1) := by decide +kernel
theorem dX0_copy_27 : decode cX0_copy 27 = .ok (.aload_n 0, 1) := by decide +kernel
theorem dX0_copy_28 : decode cX0_copy 28 = .ok (.getfield 34, 3) := by decide +kernel
theorem dX0_copy_31 : decode cX0_copy 31 = .ok (.iload_n 1, 1) := by decide +kernel
theorem dX0_copy_32 : decode cX0_copy 32 = .ok (.iaload, 1) := by decide +kernel
theorem dX0_copy_33 : decode cX0_copy 33 = .ok (.iload_n 3, 1) := by decide +kernel
theorem dX0_copy_34 : decode cX0_copy 34 = .ok (.iand, 1) := by decide +kernel
theorem dX0_copy_35 : decode cX0_copy 35 = .ok (.invokevirtual 55, 3) := by decide +kernel
theorem dX0_copy_38 : decode cX0_copy 38 = .ok (.aload_n 0, 1) := by decide +kernel
theorem dX0_copy_39 : decode cX0_copy 39 = .ok (.getfield 34, 3) := by decide +kernel
theorem dX0_copy_42 : decode cX0_copy 42 = .ok (.iload_n 2, 1) := by decide +kernel
theorem dX0_copy_43 : decode cX0_copy 43 = .ok (.iaload, 1) := by decide +kernel
theorem dX0_copy_44 : decode cX0_copy 44 = .ok (.ireturn, 1) := by decide +kernel
theorem dX0_move_0 : decode cX0_move 0 = .ok (.aload_n 0, 1) := by decide +kernel
theorem dX0_move_1 : decode cX0_move 1 = .ok (.iload_n 1, 1) := by decide +kernel
theorem dX0_move_2 : decode cX0_move 2 = .ok (.invokevirtual 44, 3) := by decide +kernel
theorem dX0_move_5 : decode cX0_move 5 = .ok (.ifCond .eq 11, 3) := by decide +kernel
theorem dX0_move_8 : decode cX0_move 8 = .ok (.aload_n 0, 1) := by decide +kernel
theorem dX0_move_9 : decode cX0_move 9 = .ok (.iload_n 2, 1) := by decide +kernel
theorem dX0_move_10 : decode cX0_move 10 = .ok (.invokevirtual 48, 3) := by decide +kernel
theorem dX0_move_13 : decode cX0_move 13 = .ok (.ifCond .ne 5, 3) := by decide +kernel
theorem dX0_move_16 : decode cX0_move 16 = .ok (.iconst (-1), 1) := by decide +kernel
theorem dX0_move_17 : decode cX0_move 17 = .ok (.ireturn, 1) := by decide +kernel
theorem dX0_move_18 : decode cX0_move 18 = .ok (.aload_n 0, 1) := by decide +kernel
theorem dX0_move_19 : decode cX0_move 19 = .ok (.iload_n 1, 1) := by decide +kernel
theorem dX0_move_20 : decode cX0_move 20 = .ok (.invokevirtual 59, 3) := by decide +kernel
theorem dX0_move_23 : decode cX0_move 23 = .ok (.istore_n 3, 1) := by decide +kernel
theorem dX0_move_24 : decode cX0_move 24 = .ok (.aload_n 0, 1) := by decide +kernel
theorem dX0_move_25 : decode cX0_move 25 = .ok (.getfield 25, 3) := by decide +kernel
theorem dX0_move_28 : decode cX0_move 28 = .ok (.iload_n 3, 1) := by decide +kernel
theorem dX0_move_29 : decode cX0_move 29 = .ok (.iload_n 2, 1) := by decide +kernel
theorem dX0_move_30 : decode cX0_move 30 = .ok (.iastore, 1) := by decide +kernel
theorem dX0_move_31 : decode cX0_move 31 = .ok (.aload_n 0, 1) := by decide +kernel
theorem dX0_move_32 : decode cX0_move 32 = .ok (.getfield 31, 3) := by decide +kernel
theorem dX0_move_35 : decode cX0_move 35 = .ok (.iload_n 2, 1) := by decide +kernel
theorem dX0_move_36 : decode cX0_move 36 = .ok (.aload_n 0, 1) := by decide +kernel
theorem dX0_move_37 : decode cX0_move 37 = .ok (.getfield 31, 3) := by decide +kernel
theorem dX0_move_40 : decode cX0_move 40 = .ok (.iload_n 1, 1) := by decide +kernel
theorem dX0_move_41 : decode cX0_move 41 = .ok (.iaload, 1) := by decide +kernel
theorem dX0_move_42 : decode cX0_move 42 = .ok (.iastore, 1) := by decide +kernel
theorem dX0_move_43 : decode cX0_move 43 = .ok (.aload_n 0, 1) := by decide +kernel
theorem dX0_move_44 : decode cX0_move 44 = .ok (.getfield 34, 3) := by decide +kernel
theorem dX0_move_47 : decode cX0_move 47 = .ok (.iload_n 2, 1) := by decide +kernel
theorem dX0_move_48 : decode cX0_move 48 = .ok (.aload_n 0, 1) := by decide +kernel
theorem dX0_move_49 : decode cX0_move 49 = .ok (.getfield 34, 3) := by decide +kernel
theorem dX0_move_52 : decode cX0_move 52 = .ok (.iload_n 1, 1) := by decide +kernel
theorem dX0_move_53 : decode cX0_move 53 = .ok (.iaload, 1) := by decide +kernel
theorem dX0_move_54 : decode cX0_move 54 = .ok (.iastore, 1) := by decide +kernel
theorem dX0_move_55 : decode cX0_move 55 = .ok (.aload_n 0, 1) := by decide +kernel
theorem dX0_move_56 : decode cX0_move 56 = .ok (.getfield 31, 3) := by decide +kernel
theorem dX0_move_59 : decode cX0_move 59 = .ok (.iload_n 1, 1) := by decide +kernel
theorem dX0_move_60 : decode cX0_move 60 = .ok (.iconst (-1), 1) := by decide +kernel
theorem dX0_move_61 : decode cX0_move 61 = .ok (.iastore, 1) := by decide +kernel
theorem dX0_move_62 : decode cX0_move 62 = .ok (.iconst 0, 1) := by decide +kernel
theorem dX0_move_63 : decode cX0_move 63 = .ok (.ireturn, 1) := by decide +kernel
end
section
set_option maxRecDepth 100000
theorem dX0_delete_0 : decode cX0_delete 0 = .ok (.aload_n 0, 1) := by decide +kernel
theorem dX0_delete_1 : decode cX0_delete 1 = .ok (.iload_n 1, 1) := by decide +kernel
theorem dX0_delete_2 : decode cX0_delete 2 = .ok (.invokevirtual 44, 3) := by decide +kernel
theorem dX0_delete_5 : decode cX0_delete 5 = .ok (.ifCond .ne 5, 3) := by decide +kernel
theorem dX0_delete_8 : decode cX0_delete 8 = .ok (.iconst (-1), 1) := by decide +kernel
theorem dX0_delete_9 : decode cX0_delete 9 = .ok (.ireturn, 1) := by decide +kernel
theorem dX0_delete_10 : decode cX0_delete 10 = .ok (.aload_n 0, 1) := by decide +kernel
theorem dX0_delete_11 : decode cX0_delete 11 = .ok (.iload_n 1, 1) := by decide +kernel
theorem dX0_delete_12 : decode cX0_delete 12 = .ok (.invokevirtual 59, 3) := by decide +kernel
theorem dX0_delete_15 : decode cX0_delete 15 = .ok (.istore_n 2, 1) := by decide +kernel
theorem dX0_delete_16 : decode cX0_delete 16 = .ok (.aload_n 0, 1) := by decide +kernel
theorem dX0_delete_17 : decode cX0_delete 17 = .ok (.iload_n 2, 1) := by decide +kernel
theorem dX0_delete_18 : decode cX0_delete 18 = .ok (.invokevirtual 63, 3) := by decide +kernel
theorem dX0_delete_21 : decode cX0_delete 21 = .ok (.istore_n 3, 1) := by decide +kernel
theorem dX0_delete_22 : decode cX0_delete 22 = .ok (.aload_n 0, 1) := by decide +kernel
theorem dX0_delete_23 : decode cX0_delete 23 = .ok (.getfield 28, 3) := by decide +kernel
theorem dX0_delete_26 : decode cX0_delete 26 = .ok (.iload_n 2, 1) := by decide +kernel
theorem dX0_delete_27 : decode cX0_delete 27 = .ok (.iaload, 1) := by decide +kernel
theorem dX0_delete_28 : decode cX0_delete 28 = .ok (.istore 4, 2) := by decide +kernel
theorem dX0_delete_30 : decode cX0_delete 30 = .ok (.iconst 0, 1) := by decide +kernel
theorem dX0_delete_31 : decode cX0_delete 31 = .ok (.istore 5, 2) := by decide +kernel
theorem dX0_delete_33 : decode cX0_delete 33 = .ok (.iload_n 2, 1) := by decide +kernel
theorem dX0_delete_34 : decode cX0_delete 34 = .ok (.iconst 1, 1) := by decide +kernel
theorem dX0_delete_35 : decode cX0_delete 35 = .ok (.iadd, 1) := by decide +kernel
theorem dX0_delete_36 : decode cX0_delete 36 = .ok (.istore 6, 2) := by decide +kernel
theorem dX0_delete_38 : decode cX0_delete 38 = .ok (.iload 6, 2) := by decide +kernel
theorem dX0_delete_40 : decode cX0_delete 40 = .ok (.iload_n 3, 1) := by decide +kernel
theorem dX0_delete_41 : decode cX0_delete 41 = .ok (.if_icmp .ge 44, 3) := by decide +kernel
theorem dX0_delete_44 : decode cX0_delete 44 = .ok (.iload 5, 2) := by decide +kernel
theorem dX0_delete_46 : decode cX0_delete 46 = .ok (.aload_n 0, 1) := by decide +kernel
theorem dX0_delete_47 : decode cX0_delete 47 = .ok (.getfield 28, 3) := by decide +kernel
theorem dX0_delete_50 : decode cX0_delete 50 = .ok (.iload 6, 2) := by decide +kernel
theorem dX0_delete_52 : decode cX0_delete 52 = .ok (.iaload, 1) := by decide +kernel
theorem dX0_delete_53 : decode cX0_delete 53 = .ok (.iload 4, 2) := by decide +kernel
theorem dX0_delete_55 : decode cX0_delete 55 = .ok (.iconst 1, 1) := by decide +kernel
theorem dX0_delete_56 : decode cX0_delete 56 = .ok (.iadd, 1) := by decide +kernel
theorem dX0_delete_57 : decode cX0_delete 57 = .ok (.if_icmp .ne 7, 3) := by decide +kernel
theorem dX0_delete_60 : decode cX0_delete 60 = .ok (.iconst 1, 1) := by decide +kernel
theorem dX0_delete_61 : decode cX0_delete 61 = .ok (.goto 4, 3) := by decide +kernel
theorem dX0_delete_64 : decode cX0_delete 64 = .ok (.iconst 0, 1) := by decide +kernel
theorem dX0_delete_65 : decode cX0_delete 65 = .ok (.iadd, 1) := by decide +kernel
theorem dX0_delete_66 : decode cX0_delete 66 = .ok (.istore 5, 2) := by decide +kernel
theorem dX0_delete_68 : decode cX0_delete 68 = .ok (.aload_n 0, 1) := by decide +kernel
theorem dX0_delete_69 : decode cX0_delete 69 = .ok (.getfield 28, 3) := by decide +kernel
theorem dX0_delete_72 : decode cX0_delete 72 = .ok (.iload 6, 2) := by decide +kernel
theorem dX0_delete_74 : decode cX0_delete 74 = .ok (.dup2, 1) := by decide +kernel
theorem dX0_delete_75 : decode cX0_delete 75 = .ok (.iaload, 1) := by decide +kernel
theorem dX0_delete_76 : decode cX0_delete 76 = .ok (.iconst 1, 1) := by decide +kernel
theorem dX0_delete_77 : decode cX0_delete 77 = .ok (.isub, 1) := by decide +kernel
theorem dX0_delete_78 : decode cX0_delete 78 = .ok (.iastore, 1) := by decide +kernel
theorem dX0_delete_79 : decode cX0_delete 79 = .ok (.iinc 6 1, 3) := by decide +kernel
theorem dX0_delete_82 : decode cX0_delete 82 = .ok (.goto (-44), 3) := by decide +kernel
theorem dX0_delete_85 : decode cX0_delete 85 = .ok (.aload_n 0, 1) := by decide +kernel
theorem dX0_delete_86 : decode cX0_delete 86 = .ok (.iload_n 1, 1) := by decide +kernel
theorem dX0_delete_87 : decode cX0_delete 87 = .ok (.invokevirtual 66, 3) := by decide +kernel
theorem dX0_delete_90 : decode cX0_delete 90 = .ok (.aload_n 0, 1) := by decide +kernel
theorem dX0_delete_91 : decode cX0_delete 91 = .ok (.iload_n 2, 1) := by decide +kernel
theorem dX0_delete_92 : decode cX0_delete 92 = .ok (.iload_n 2, 1) := by decide +kernel
theorem dX0_delete_93 : decode cX0_delete 93 = .ok (.iconst 1, 1) := by decide +kernel
theorem dX0_delete_94 : decode cX0_delete 94 = .ok (.iadd, 1) := by decide +kernel
theorem dX0_delete_95 : decode cX0_delete 95 = .ok (.invokevirtual 70, 3) := by decide +kernel
theorem dX0_delete_98 : decode cX0_delete 98 = .ok (.aload_n 0, 1) := by decide +kernel
theorem dX0_delete_99 : decode cX0_delete 99 = .ok (.invokevirtual 74, 3) := by decide +kernel
theorem dX0_delete_102 : decode cX0_delete 102 = .ok (.iload 5, 2) := by decide +kernel
theorem dX0_delete_104 : decode cX0_delete 104 = .ok (.ireturn, 1) := by decide +kernel
theorem dX0_endOfPart_0 : decode cX0_endOfPart 0 = .ok (.iload_n 1, 1) := by decide +kernel
theorem dX0_endOfPart_1 : decode cX0_endOfPart 1 = .ok (.iconst 1, 1) := by decide +kernel
theorem dX0_endOfPart_2 : decode cX0_endOfPart 2 = .ok (.iadd, 1) := by decide +kernel
theorem dX0_endOfPart_3 : decode cX0_endOfPart 3 = .ok (.istore_n 2, 1) := by decide +kernel
theorem dX0_endOfPart_4 : decode cX0_endOfPart 4 = .ok (.iload_n 1, 1) := by decide +kernel
theorem dX0_endOfPart_5 : decode cX0_endOfPart 5 = .ok (.iconst 1, 1) := by decide +kernel
theorem dX0_endOfPart_6 : decode cX0_endOfPart 6 = .ok (.iadd, 1) := by decide +kernel
theorem dX0_endOfPart_7 : decode cX0_endOfPart 7 = .ok (.istore_n 3, 1) := by decide +kernel
theorem dX0_endOfPart_8 : decode cX0_endOfPart 8 = .ok (.iload_n 3, 1) := by decide +kernel
theorem dX0_endOfPart_9 : decode cX0_endOfPart 9 = .ok (.aload_n 0, 1) := by decide +kernel
theorem dX0_endOfPart_10 : decode cX0_endOfPart 10 = .ok (.getfield 41, 3) := by decide +kernel
theorem dX0_endOfPart_13 : decode cX0_endOfPart 13 = .ok (.if_icmp .ge 33, 3) := by decide +kernel
theorem dX0_endOfPart_16 : decode cX0_endOfPart 16 = .ok (.iload_n 2, 1) := by decide +kernel
theorem dX0_endOfPart_17 : decode cX0_endOfPart 17 = .ok (.iload_n 3, 1) := by decide +kernel
theorem dX0_endOfPart_18 : decode cX0_endOfPart 18 = .ok (.if_icmp .ne 22, 3) := by decide +kernel
theorem dX0_endOfPart_21 : decode cX0_endOfPart 21 = .ok (.aload_n 0, 1) := by decide +kernel
theorem dX0_endOfPart_22 : decode cX0_endOfPart 22 = .ok (.getfield 28, 3) := by decide +kernel
theorem dX0_endOfPart_25 : decode cX0_endOfPart 25 = .ok (.iload_n 3, 1) := by decide +kernel
theorem dX0_endOfPart_26 : decode cX0_endOfPart 26 = .ok (.iaload, 1) := by decide +kernel
theorem dX0_endOfPart_27 : decode cX0_endOfPart 27 = .ok (.aload_n 0, 1) := by decide +kernel
theorem dX0_endOfPart_28 : decode cX0_endOfPart 28 = .ok (.getfield 28, 3) := by decide +kernel
theorem dX0_endOfPart_31 : decode cX0_endOfPart 31 = .ok (.iload_n 1, 1) := by decide +kernel
theorem dX0_endOfPart_32 : decode cX0_endOfPart 32 = .ok (.iaload, 1) := by decide +kernel
theorem dX0_endOfPart_33 : decode cX0_endOfPart 33 = .ok (.if_icmp .le 7, 3) := by decide +kernel
theorem dX0_endOfPart_36 : decode cX0_endOfPart 36 = .ok (.iload_n 3, 1) := by decide +kernel
theorem dX0_endOfPart_37 : decode cX0_endOfPart 37 = .ok (.iconst 1, 1) := by decide +kernel
theorem dX0_endOfPart_38 : decode cX0_endOfPart 38 = .ok (.iadd, 1) := by decide +kernel
theorem dX0_endOfPart_39 : decode cX0_endOfPart 39 = .ok (.istore_n 2, 1) := by decide +kernel
theorem dX0_endOfPart_40 : decode cX0_endOfPart 40 = .ok (.iinc 3 1, 3) := by decide +kernel
theorem dX0_endOfPart_43 : decode cX0_endOfPart 43 = .ok (.goto (-35), 3) := by decide +kernel
theorem dX0_endOfPart_46 : decode cX0_endOfPart 46 = .ok (.iload_n 2, 1) := by decide +kernel
theorem dX0_endOfPart_47 : decode cX0_endOfPart 47 = .ok (.ireturn, 1) := by decide +kernel
theorem dX0_forgetKey_0 : decode cX0_forgetKey 0 = .ok (.aload_n 0, 1) := by decide +kernel
theorem dX0_forgetKey_1 : decode cX0_forgetKey 1 = .ok (.getfield 19, 3) := by decide +kernel
theorem dX0_forgetKey_4 : decode cX0_forgetKey 4 = .ok (.aload_n 0, 1) := by decide +kernel
theorem dX0_forgetKey_5 : decode cX0_forgetKey 5 = .ok (.getfield 31, 3) := by decide +kernel
theorem dX0_forgetKey_8 : decode cX0_forgetKey 8 = .ok (.iload_n 1, 1) := by decide +kernel
theorem dX0_forgetKey_9 : decode cX0_forgetKey 9 = .ok (.iaload, 1) := by decide +kernel
theorem dX0_forgetKey_10 : decode cX0_forgetKey 10 = .ok (.dup2, 1) := by decide +kernel
theorem dX0_forgetKey_11 : decode cX0_forgetKey 11 = .ok (.iaload, 1) := by decide +kernel
theorem dX0_forgetKey_12 : decode cX0_forgetKey 12 = .ok (.iconst 1, 1) := by decide +kernel
theorem dX0_forgetKey_13 : decode cX0_forgetKey 13 = .ok (.isub, 1) := by decide +kernel
theorem dX0_forgetKey_14 : decode cX0_forgetKey 14 = .ok (.iastore, 1) := by decide +kernel
theorem dX0_forgetKey_15 : decode cX0_forgetKey 15 = .ok (.aload_n 0, 1) := by decide +kernel
theorem dX0_forgetKey_16 : decode cX0_forgetKey 16 = .ok (.getfield 31, 3) := by decide +kernel
theorem dX0_forgetKey_19 : decode cX0_forgetKey 19 = .ok (.iload_n 1, 1) := by decide +kernel
theorem dX0_forgetKey_20 : decode cX0_forgetKey 20 = .ok (.iconst (-1), 1) := by decide +kernel
theorem dX0_forgetKey_21 : decode cX0_forgetKey 21 = .ok (.iastore, 1) := by decide +kernel
theorem dX0_forgetKey_22 : decode cX0_forgetKey 22 = .ok (.return_, 1) := by decide +kernel
theorem dX0_cutRow_0 : decode cX0_cutRow 0 = .ok (.iload_n 2, 1) := by decide +kernel
theorem dX0_cutRow_1 : decode cX0_cutRow 1 = .ok (.iload_n 1, 1) := by decide +kernel
theorem dX0_cutRow_2 : decode cX0_cutRow 2 = .ok (.isub, 1) := by decide +kernel
theorem dX0_cutRow_3 : decode cX0_cutRow 3 = .ok (.istore_n 3, 1) := by decide +kernel
theorem dX0_cutRow_4 : decode cX0_cutRow 4 = .ok (.iload_n 2, 1) := by decide +kernel
theorem dX0_cutRow_5 : decode cX0_cutRow 5 = .ok (.istore 4, 2) := by decide +kernel
theorem dX0_cutRow_7 : decode cX0_cutRow 7 = .ok (.iload 4, 2) := by decide +kernel
theorem dX0_cutRow_9 : decode cX0_cutRow 9 = .ok (.aload_n 0, 1) := by decide +kernel
theorem dX0_cutRow_10 : decode cX0_cutRow 10 = .ok (.getfield 41, 3) := by decide +kernel
theorem dX0_cutRow_13 : decode cX0_cutRow 13 = .ok (.if_icmp .ge 41, 3) := by decide +kernel
theorem dX0_cutRow_16 : decode cX0_cutRow 16 = .ok (.aload_n 0, 1) := by decide +kernel
theorem dX0_cutRow_17 : decode cX0_cutRow 17 = .ok (.getfield 25, 3) := by decide +kernel
theorem dX0_cutRow_20 : decode cX0_cutRow 20 = .ok (.iload 4, 2) := by decide +kernel
theorem dX0_cutRow_22 : decode cX0_cutRow 22 = .ok (.iload_n 3, 1) := by decide +kernel
theorem dX0_cutRow_23 : decode cX0_cutRow 23 = .ok (.isub, 1) := by decide +kernel
theorem dX0_cutRow_24 : decode cX0_cutRow 24 = .ok (.aload_n 0, 1) := by decide +kernel
theorem dX0_cutRow_25 : decode cX0_cutRow 25 = .ok (.getfield 25, 3) := by decide +kernel
theorem dX0_cutRow_28 : decode cX0_cutRow 28 = .ok (.iload 4, 2) := by decide +kernel
theorem dX0_cutRow_30 : decode cX0_cutRow 30 = .ok (.iaload, 1) := by decide +kernel
theorem dX0_cutRow_31 : decode cX0_cutRow 31 = .ok (.iastore, 1) := by decide +kernel
theorem dX0_cutRow_32 : decode cX0_cutRow 32 = .ok (.aload_n 0, 1) := by decide +kernel
theorem dX0_cutRow_33 : decode cX0_cutRow 33 = .ok (.getfield 28, 3) := by decide +kernel
theorem dX0_cutRow_36 : decode cX0_cutRow 36 = .ok (.iload 4, 2) := by decide +kernel
theorem dX0_cutRow_38 : decode cX0_cutRow 38 = .ok (.iload_n 3, 1) := by decide +kernel
theorem dX0_cutRow_39 : decode cX0_cutRow 39 = .ok (.isub, 1) := by decide +kernel
theorem dX0_cutRow_40 : decode cX0_cutRow 40 = .ok (.aload_n 0, 1) := by decide +kernel
theorem dX0_cutRow_41 : decode cX0_cutRow 41 = .ok (.getfield 28, 3) := by decide +kernel
theorem dX0_cutRow_44 : decode cX0_cutRow 44 = .ok (.iload 4, 2) := by decide +kernel
theorem dX0_cutRow_46 : decode cX0_cutRow 46 = .ok (.iaload, 1) := by decide +kernel
theorem dX0_cutRow_47 : decode cX0_cutRow 47 = .ok (.iastore, 1) := by decide +kernel
theorem dX0_cutRow_48 : decode cX0_cutRow 48 = .ok (.iinc 4 1, 3) := by decide +kernel
theorem dX0_cutRow_51 : decode cX0_cutRow 51 = .ok (.goto (-44), 3) := by decide +kernel
theorem dX0_cutRow_54 : decode cX0_cutRow 54 = .ok (.aload_n 0, 1) := by decide +kernel
theorem dX0_cutRow_55 : decode cX0_cutRow 55 = .ok (.dup, 1) := by decide +kernel
theorem dX0_cutRow_56 : decode cX0_cutRow 56 = .ok (.getfield 41, 3) := by decide +kernel
theorem dX0_cutRow_59 : decode cX0_cutRow 59 = .ok (.iload_n 3, 1) := by decide +kernel
theorem dX0_cutRow_60 : decode cX0_cutRow 60 = .ok (.isub, 1) := by decide +kernel
theorem dX0_cutRow_61 : decode cX0_cutRow 61 = .ok (.putfield 41, 3) := by decide +kernel
theorem dX0_cutRow_64 : decode cX0_cutRow 64 = .ok (.return_, 1) := by decide +kernel
theorem dX0_resetMarks_0 : decode cX0_resetMarks 0 = .ok (.iconst 0, 1) := by decide +kernel
theorem dX0_resetMarks_1 : decode cX0_resetMarks 1 = .ok (.istore_n 1, 1) := by decide +kernel
theorem dX0_resetMarks_2 : decode cX0_resetMarks 2 = .ok (.iload_n 1, 1) := by decide +kernel
theorem dX0_resetMarks_3 : decode cX0_resetMarks 3 = .ok (.bipush 16, 2) := by decide +kernel
theorem dX0_resetMarks_5 : decode cX0_resetMarks 5 = .ok (.if_icmp .ge 42, 3) := by decide +kernel
theorem dX0_resetMarks_8 : decode cX0_resetMarks 8 = .ok (.aload_n 0, 1) := by decide +kernel
theorem dX0_resetMarks_9 : decode cX0_resetMarks 9 = .ok (.getfield 19, 3) := by decide +kernel
theorem dX0_resetMarks_12 : decode cX0_resetMarks 12 = .ok (.iload_n 1, 1) := by decide +kernel
theorem dX0_resetMarks_13 : decode cX0_resetMarks 13 = .ok (.iaload, 1) := by decide +kernel
theorem dX0_resetMarks_14 : decode cX0_resetMarks 14 = .ok (.ifCond .le 27, 3) := by decide +kernel
theorem dX0_resetMarks_17 : decode cX0_resetMarks 17 = .ok (.aload_n 0, 1) := by decide +kernel
theorem dX0_resetMarks_18 : decode cX0_resetMarks 18 = .ok (.getfield 16, 3) := by decide +kernel
theorem dX0_resetMarks_21 : decode cX0_resetMarks 21 = .ok (.iload_n 1, 1) := by decide +kernel
theorem dX0_resetMarks_22 : decode cX0_resetMarks 22 = .ok (.iaload, 1) := by decide +kernel
theorem dX0_resetMarks_23 : decode cX0_resetMarks 23 = .ok (.ifCond .le 18, 3) := by decide +kernel
theorem dX0_resetMarks_26 : decode cX0_resetMarks 26 = .ok (.aload_n 0, 1) := by decide +kernel
theorem dX0_resetMarks_27 : decode cX0_resetMarks 27 = .ok (.iload_n 1, 1) := by decide +kernel
theorem dX0_resetMarks_28 : decode cX0_resetMarks 28 = .ok (.invokevirtual 77, 3) := by decide +kernel
theorem dX0_resetMarks_31 : decode cX0_resetMarks 31 = .ok (.ifCond .ne 10, 3) := by decide +kernel
theorem dX0_resetMarks_34 : decode cX0_resetMarks 34 = .ok (.aload_n 0, 1) := by decide +kernel
theorem dX0_resetMarks_35 : decode cX0_resetMarks 35 = .ok (.getfield 16, 3) := by decide +kernel
theorem dX0_resetMarks_38 : decode cX0_resetMarks 38 = .ok (.iload_n 1, 1) := by decide +kernel
theorem dX0_resetMarks_39 : decode cX0_resetMarks 39 = .ok (.iconst 0, 1) := by decide +kernel
theorem dX0_resetMarks_40 : decode cX0_resetMarks 40 = .ok (.iastore, 1) := by decide +kernel
theorem dX0_resetMarks_41 : decode cX0_resetMarks 41 = .ok (.iinc 1 1, 3) := by decide +kernel
theorem dX0_resetMarks_44 : decode cX0_resetMarks 44 = .ok (.goto (-42), 3) := by decide +kernel
theorem dX0_resetMarks_47 : decode cX0_resetMarks 47 = .ok (.return_, 1) := by decide +kernel
theorem dX0_holdsOthers_0 : decode cX0_holdsOthers 0 = .ok (.iconst 0, 1) := by decide +kernel
theorem dX0_holdsOthers_1 : decode cX0_holdsOthers 1 = .ok (.istore_n 2, 1) := by decide +kernel
theorem dX0_holdsOthers_2 : decode cX0_holdsOthers 2 = .ok (.iload_n 2, 1) := by decide +kernel
theorem dX0_holdsOthers_3 : decode cX0_holdsOthers 3 = .ok (.bipush 16, 2) := by decide +kernel
theorem dX0_holdsOthers_5 : decode cX0_holdsOthers 5 = .ok (.if_icmp .ge 89, 3) := by decide +kernel
theorem dX0_holdsOthers_8 : decode cX0_holdsOthers 8 = .ok (.aload_n 0, 1) := by decide +kernel
theorem dX0_holdsOthers_9 : decode cX0_holdsOthers 9 = .ok (.getfield 19, 3) := by decide +kernel
theorem dX0_holdsOthers_12 : decode cX0_holdsOthers 12 = .ok (.iload_n 2, 1) := by decide +kernel
theorem dX0_holdsOthers_13 : decode cX0_holdsOthers 13 = .ok (.iaload, 1) := by decide +kernel
theorem dX0_holdsOthers_14 : decode cX0_holdsOthers 14 = .ok (.ifCond .le 22, 3) := by decide +kernel
theorem dX0_holdsOthers_17 : decode cX0_holdsOthers 17 = .ok (.aload_n 0, 1) := by decide +kernel
theorem dX0_holdsOthers_18 : decode cX0_holdsOthers 18 = .ok (.getfield 22, 3) := by decide +kernel
theorem dX0_holdsOthers_21 : decode cX0_holdsOthers 21 = .ok (.iload_n 2, 1) := by decide +kernel
theorem dX0_holdsOthers_22 : decode cX0_holdsOthers 22 = .ok (.iaload, 1) := by decide +kernel
theorem dX0_holdsOthers_23 : decode cX0_holdsOthers 23 = .ok (.aload_n 0, 1) := by decide +kernel
theorem dX0_holdsOthers_24 : decode cX0_holdsOthers 24 = .ok (.getfield 22, 3) := by decide +kernel
theorem dX0_holdsOthers_27 : decode cX0_holdsOthers 27 = .ok (.iload_n 1, 1) := by decide +kernel
theorem dX0_holdsOthers_28 : decode cX0_holdsOthers 28 = .ok (.iaload, 1) := by decide +kernel
theorem dX0_holdsOthers_29 : decode cX0_holdsOthers 29 = .ok (.if_icmp .le 7, 3) := by decide +kernel
theorem dX0_holdsOthers_32 : decode cX0_holdsOthers 32 = .ok (.iconst 1, 1) := by decide +kernel
theorem dX0_holdsOthers_33 : decode cX0_holdsOthers 33 = .ok (.goto 4, 3) := by decide +kernel
theorem dX0_holdsOthers_36 : decode cX0_holdsOthers 36 = .ok (.iconst 0, 1) := by decide +kernel
theorem dX0_holdsOthers_37 : decode cX0_holdsOthers 37 = .ok (.istore_n 3, 1) := by decide +kernel
theorem dX0_holdsOthers_38 : decode cX0_holdsOthers 38 = .ok (.iload_n 3, 1) := by decide +kernel
theorem dX0_holdsOthers_39 : decode cX0_holdsOthers 39 = .ok (.ifCond .eq 49, 3) := by decide +kernel
theorem dX0_holdsOthers_42 : decode cX0_holdsOthers 42 = .ok (.aload_n 0, 1) := by decide +kernel
theorem dX0_holdsOthers_43 : decode cX0_holdsOthers 43 = .ok (.getfield 7, 3) := by decide +kernel
theorem dX0_holdsOthers_46 : decode cX0_holdsOthers 46 = .ok (.iload_n 2, 1) := by decide +kernel
theorem dX0_holdsOthers_47 : decode cX0_holdsOthers 47 = .ok (.iaload, 1) := by decide +kernel
theorem dX0_holdsOthers_48 : decode cX0_holdsOthers 48 = .ok (.aload_n 0, 1) := by decide +kernel
theorem dX0_holdsOthers_49 : decode cX0_holdsOthers 49 = .ok (.getfield 7, 3) := by decide +kernel
theorem dX0_holdsOthers_52 : decode cX0_holdsOthers 52 = .ok (.iload_n 1, 1) := by decide +kernel
theorem dX0_holdsOthers_53 : decode cX0_holdsOthers 53 = .ok (.iaload, 1) := by decide +kernel
theorem dX0_holdsOthers_54 : decode cX0_holdsOthers 54 = .ok (.if_icmp .lt 34, 3) := by decide +kernel
theorem dX0_holdsOthers_57 : decode cX0_holdsOthers 57 = .ok (.aload_n 0, 1) := by decide +kernel
theorem dX0_holdsOthers_58 : decode cX0_holdsOthers 58 = .ok (.getfield 7, 3) := by decide +kernel
theorem dX0_holdsOthers_61 : decode cX0_holdsOthers 61 = .ok (.iload_n 2, 1) := by decide +kernel
theorem dX0_holdsOthers_62 : decode cX0_holdsOthers 62 = .ok (.iaload, 1) := by decide +kernel
theorem dX0_holdsOthers_63 : decode cX0_holdsOthers 63 = .ok (.aload_n 0, 1) := by decide +kernel
theorem dX0_holdsOthers_64 : decode cX0_holdsOthers 64 = .ok (.getfield 13, 3) := by decide +kernel
theorem dX0_holdsOthers_67 : decode cX0_holdsOthers 67 = .ok (.iload_n 2, 1) := by decide +kernel
theorem dX0_holdsOthers_68 : decode cX0_holdsOthers 68 = .ok (.iaload, 1) := by decide +kernel
theorem dX0_holdsOthers_69 : decode cX0_holdsOthers 69 = .ok (.iadd, 1) := by decide +kernel
theorem dX0_holdsOthers_70 : decode cX0_holdsOthers 70 = .ok (.aload_n 0, 1) := by decide +kernel
theorem dX0_holdsOthers_71 : decode cX0_holdsOthers 71 = .ok (.getfield 7, 3) := by decide +kernel
theorem dX0_holdsOthers_74 : decode cX0_holdsOthers 74 = .ok (.iload_n 1, 1) := by decide +kernel
theorem dX0_holdsOthers_75 : decode cX0_holdsOthers 75 = .ok (.iaload, 1) := by decide +kernel
theorem dX0_holdsOthers_76 : decode cX0_holdsOthers 76 = .ok (.aload_n 0, 1) := by decide +kernel
theorem dX0_holdsOthers_77 : decode cX0_holdsOthers 77 = .ok (.getfield 13, 3) := by decide +kernel
theorem dX0_holdsOthers_80 : decode cX0_holdsOthers 80 = .ok (.iload_n 1, 1) := by decide +kernel
theorem dX0_holdsOthers_81 : decode cX0_holdsOthers 81 = .ok (.iaload, 1) := by decide +kernel
theorem dX0_holdsOthers_82 : decode cX0_holdsOthers 82 = .ok (.iadd, 1) := by decide +kernel
theorem dX0_holdsOthers_83 : decode cX0_holdsOthers 83 = .ok (.if_icmp .gt 5, 3) := by decide +kernel
theorem dX0_holdsOthers_86 : decode cX0_holdsOthers 86 = .ok (.iconst 1, 1) := by decide +kernel
theorem dX0_holdsOthers_87 : decode cX0_holdsOthers 87 = .ok (.ireturn, 1) := by decide +kernel
theorem dX0_holdsOthers_88 : decode cX0_holdsOthers 88 = .ok (.iinc 2 1, 3) := by decide +kernel
theorem dX0_holdsOthers_91 : decode cX0_holdsOthers 91 = .ok (.goto (-89), 3) := by decide +kernel
theorem dX0_holdsOthers_94 : decode cX0_holdsOthers 94 = .ok (.iconst 0, 1) := by decide +kernel
theorem dX0_holdsOthers_95 : decode cX0_holdsOthers 95 = .ok (.ireturn, 1) := by decide +kernel
theorem dX0_revoke_0 : decode cX0_revoke 0 = .ok (.aload_n 0, 1) := by decide +kernel
theorem dX0_revoke_1 : decode cX0_revoke 1 = .ok (.iload_n 1, 1) := by decide +kernel
theorem dX0_revoke_2 : decode cX0_revoke 2 = .ok (.invokevirtual 44, 3) := by decide +kernel
theorem dX0_revoke_5 : decode cX0_revoke 5 = .ok (.ifCond .ne 5, 3) := by decide +kernel
theorem dX0_revoke_8 : decode cX0_revoke 8 = .ok (.iconst (-1), 1) := by decide +kernel
theorem dX0_revoke_9 : decode cX0_revoke 9 = .ok (.ireturn, 1) := by decide +kernel
theorem dX0_revoke_10 : decode cX0_revoke 10 = .ok (.aload_n 0, 1) := by decide +kernel
theorem dX0_revoke_11 : decode cX0_revoke 11 = .ok (.iload_n 1, 1) := by decide +kernel
theorem dX0_revoke_12 : decode cX0_revoke 12 = .ok (.invokevirtual 59, 3) := by decide +kernel
theorem dX0_revoke_15 : decode cX0_revoke 15 = .ok (.istore_n 2, 1) := by decide +kernel
theorem dX0_revoke_16 : decode cX0_revoke 16 = .ok (.aload_n 0, 1) := by decide +kernel
theorem dX0_revoke_17 : decode cX0_revoke 17 = .ok (.iload_n 2, 1) := by decide +kernel
theorem dX0_revoke_18 : decode cX0_revoke 18 = .ok (.invokevirtual 63, 3) := by decide +kernel
theorem dX0_revoke_21 : decode cX0_revoke 21 = .ok (.istore_n 3, 1) := by decide +kernel
theorem dX0_revoke_22 : decode cX0_revoke 22 = .ok (.iload_n 2, 1) := by decide +kernel
theorem dX0_revoke_23 : decode cX0_revoke 23 = .ok (.iconst 1, 1) := by decide +kernel
theorem dX0_revoke_24 : decode cX0_revoke 24 = .ok (.iadd, 1) := by decide +kernel
theorem dX0_revoke_25 : decode cX0_revoke 25 = .ok (.istore 4, 2) := by decide +kernel
theorem dX0_revoke_27 : decode cX0_revoke 27 = .ok (.iload 4, 2) := by decide +kernel
theorem dX0_revoke_29 : decode cX0_revoke 29 = .ok (.iload_n 3, 1) := by decide +kernel
theorem dX0_revoke_30 : decode cX0_revoke 30 = .ok (.if_icmp .ge 20, 3) := by decide +kernel
theorem dX0_revoke_33 : decode cX0_revoke 33 = .ok (.aload_n 0, 1) := by decide +kernel
theorem dX0_revoke_34 : decode cX0_revoke 34 = .ok (.aload_n 0, 1) := by decide +kernel
theorem dX0_revoke_35 : decode cX0_revoke 35 = .ok (.getfield 25, 3) := by decide +kernel
theorem dX0_revoke_38 : decode cX0_revoke 38 = .ok (.iload 4, 2) := by decide +kernel
theorem dX0_revoke_40 : decode cX0_revoke 40 = .ok (.iaload, 1) := by decide +kernel
theorem dX0_revoke_41 : decode cX0_revoke 41 = .ok (.invokevirtual 66, 3) := by decide +kernel
theorem dX0_revoke_44 : decode cX0_revoke 44 = .ok (.iinc 4 1, 3) := by decide +kernel
theorem dX0_revoke_47 : decode cX0_revoke 47 = .ok (.goto (-20), 3) := by decide +kernel
theorem dX0_revoke_50 : decode cX0_revoke 50 = .ok (.aload_n 0, 1) := by decide +kernel
theorem dX0_revoke_51 : decode cX0_revoke 51 = .ok (.iload_n 2, 1) := by decide +kernel
theorem dX0_revoke_52 : decode cX0_revoke 52 = .ok (.iconst 1, 1) := by decide +kernel
theorem dX0_revoke_53 : decode cX0_revoke 53 = .ok (.iadd, 1) := by decide +kernel
theorem dX0_revoke_54 : decode cX0_revoke 54 = .ok (.iload_n 3, 1) := by decide +kernel
theorem dX0_revoke_55 : decode cX0_revoke 55 = .ok (.invokevirtual 70, 3) := by decide +kernel
theorem dX0_revoke_58 : decode cX0_revoke 58 = .ok (.aload_n 0, 1) := by decide +kernel
theorem dX0_revoke_59 : decode cX0_revoke 59 = .ok (.invokevirtual 74, 3) := by decide +kernel
theorem dX0_revoke_62 : decode cX0_revoke 62 = .ok (.iload_n 3, 1) := by decide +kernel
theorem dX0_revoke_63 : decode cX0_revoke 63 = .ok (.iload_n 2, 1) := by decide +kernel
theorem dX0_revoke_64 : decode cX0_revoke 64 = .ok (.isub, 1) := by decide +kernel
theorem dX0_revoke_65 : decode cX0_revoke 65 = .ok (.iconst 1, 1) := by decide +kernel
theorem dX0_revoke_66 : decode cX0_revoke 66 = .ok (.isub, 1) := by decide +kernel
theorem dX0_revoke_67 : decode cX0_revoke 67 = .ok (.ireturn, 1) := by decide +kernel
theorem dX0_piece_0 : decode cX0_piece 0 = .ok (.aload_n 0, 1) := by decide +kernel
theorem dX0_piece_1 : decode cX0_piece 1 = .ok (.iload_n 1, 1) := by decide +kernel
theorem dX0_piece_2 : decode cX0_piece 2 = .ok (.invokevirtual 44, 3) := by decide +kernel
theorem dX0_piece_5 : decode cX0_piece 5 = .ok (.ifCond .eq 32, 3) := by decide +kernel
theorem dX0_piece_8 : decode cX0_piece 8 = .ok (.bipush 100, 2) := by decide +kernel
theorem dX0_piece_10 : decode cX0_piece 10 = .ok (.aload_n 0, 1) := by decide +kernel
theorem dX0_piece_11 : decode cX0_piece 11 = .ok (.getfield 7, 3) := by decide +kernel
theorem dX0_piece_14 : decode cX0_piece 14 = .ok (.aload_n 0, 1) := by decide +kernel
theorem dX0_piece_15 : decode cX0_piece 15 = .ok (.getfield 31, 3) := by decide +kernel
theorem dX0_piece_18 : decode cX0_piece 18 = .ok (.iload_n 1, 1) := by decide +kernel
theorem dX0_piece_19 : decode cX0_piece 19 = .ok (.iaload, 1) := by decide +kernel
theorem dX0_piece_20 : decode cX0_piece 20 = .ok (.iaload, 1) := by decide +kernel
theorem dX0_piece_21 : decode cX0_piece 21 = .ok (.imul, 1) := by decide +kernel
theorem dX0_piece_22 : decode cX0_piece 22 = .ok (.aload_n 0, 1) := by decide +kernel
theorem dX0_piece_23 : decode cX0_piece 23 = .ok (.getfield 13, 3) := by decide +kernel
theorem dX0_piece_26 : decode cX0_piece 26 = .ok (.aload_n 0, 1) := by decide +kernel
theorem dX0_piece_27 : decode cX0_piece 27 = .ok (.getfield 31, 3) := by decide +kernel
theorem dX0_piece_30 : decode cX0_piece 30 = .ok (.iload_n 1, 1) := by decide +kernel
theorem dX0_piece_31 : decode cX0_piece 31 = .ok (.iaload, 1) := by decide +kernel
theorem dX0_piece_32 : decode cX0_piece 32 = .ok (.iaload, 1) := by decide +kernel
theorem dX0_piece_33 : decode cX0_piece 33 = .ok (.iadd, 1) := by decide +kernel
theorem dX0_piece_34 : decode cX0_piece 34 = .ok (.goto 4, 3) := by decide +kernel
theorem dX0_piece_37 : decode cX0_piece 37 = .ok (.iconst (-1), 1) := by decide +kernel
theorem dX0_piece_38 : decode cX0_piece 38 = .ok (.ireturn, 1) := by decide +kernel
theorem dX0_rights_0 : decode cX0_rights 0 = .ok (.aload_n 0, 1) := by decide +kernel
theorem dX0_rights_1 : decode cX0_rights 1 = .ok (.iload_n 1, 1) := by decide +kernel
theorem dX0_rights_2 : decode cX0_rights 2 = .ok (.invokevirtual 44, 3) := by decide +kernel
theorem dX0_rights_5 : decode cX0_rights 5 = .ok (.ifCond .eq 12, 3) := by decide +kernel
theorem dX0_rights_8 : decode cX0_rights 8 = .ok (.aload_n 0, 1) := by decide +kernel
theorem dX0_rights_9 : decode cX0_rights 9 = .ok (.getfield 34, 3) := by decide +kernel
theorem dX0_rights_12 : decode cX0_rights 12 = .ok (.iload_n 1, 1) := by decide +kernel
theorem dX0_rights_13 : decode cX0_rights 13 = .ok (.iaload, 1) := by decide +kernel
theorem dX0_rights_14 : decode cX0_rights 14 = .ok (.goto 4, 3) := by decide +kernel
theorem dX0_rights_17 : decode cX0_rights 17 = .ok (.iconst (-1), 1) := by decide +kernel
theorem dX0_rights_18 : decode cX0_rights 18 = .ok (.ireturn, 1) := by decide +kernel
theorem dX0_room_0 : decode cX0_room 0 = .ok (.aload_n 0, 1) := by decide +kernel
theorem dX0_room_1 : decode cX0_room 1 = .ok (.iload_n 1, 1) := by decide +kernel
theorem dX0_room_2 : decode cX0_room 2 = .ok (.invokevirtual 44, 3) := by decide +kernel
theorem dX0_room_5 : decode cX0_room 5 = .ok (.ifCond .eq 29, 3) := by decide +kernel
theorem dX0_room_8 : decode cX0_room 8 = .ok (.aload_n 0, 1) := by decide +kernel
theorem dX0_room_9 : decode cX0_room 9 = .ok (.getfield 13, 3) := by decide +kernel
theorem dX0_room_12 : decode cX0_room 12 = .ok (.aload_n 0, 1) := by decide +kernel
theorem dX0_room_13 : decode cX0_room 13 = .ok (.getfield 31, 3) := by decide +kernel
theorem dX0_room_16 : decode cX0_room 16 = .ok (.iload_n 1, 1) := by decide +kernel
theorem dX0_room_17 : decode cX0_room 17 = .ok (.iaload, 1) := by decide +kernel
theorem dX0_room_18 : decode cX0_room 18 = .ok (.iaload, 1) := by decide +kernel
theorem dX0_room_19 : decode cX0_room 19 = .ok (.aload_n 0, 1) := by decide +kernel
theorem dX0_room_20 : decode cX0_room 20 = .ok (.getfield 16, 3) := by decide +kernel
theorem dX0_room_23 : decode cX0_room 23 = .ok (.aload_n 0, 1) := by decide +kernel
theorem dX0_room_24 : decode cX0_room 24 = .ok (.getfield 31, 3) := by decide +kernel
theorem dX0_room_27 : decode cX0_room 27 = .ok (.iload_n 1, 1) := by decide +kernel
theorem dX0_room_28 : decode cX0_room 28 = .ok (.iaload, 1) := by decide +kernel
theorem dX0_room_29 : decode cX0_room 29 = .ok (.iaload, 1) := by decide +kernel
theorem dX0_room_30 : decode cX0_room 30 = .ok (.isub, 1) := by decide +kernel
theorem dX0_room_31 : decode cX0_room 31 = .ok (.goto 4, 3) := by decide +kernel
theorem dX0_room_34 : decode cX0_room 34 = .ok (.iconst (-1), 1) := by decide +kernel
theorem dX0_room_35 : decode cX0_room 35 = .ok (.ireturn, 1) := by decide +kernel
theorem dX0_descends_0 : decode cX0_descends 0 = .ok (.aload_n 0, 1) := by decide +kernel
theorem dX0_descends_1 : decode cX0_descends 1 = .ok (.iload_n 1, 1) := by decide +kernel
theorem dX0_descends_2 : decode cX0_descends 2 = .ok (.invokevirtual 44, 3) := by decide +kernel
theorem dX0_descends_5 : decode cX0_descends 5 = .ok (.ifCond .eq 11, 3) := by decide +kernel
theorem dX0_descends_8 : decode cX0_descends 8 = .ok (.aload_n 0, 1) := by decide +kernel
theorem dX0_descends_9 : decode cX0_descends 9 = .ok (.iload_n 2, 1) := by decide +kernel
theorem dX0_descends_10 : decode cX0_descends 10 = .ok (.invokevirtual 44, 3) := by decide +kernel
theorem dX0_descends_13 : decode cX0_descends 13 = .ok (.ifCond .ne 5, 3) := by decide +kernel
theorem dX0_descends_16 : decode cX0_descends 16 = .ok (.iconst (-1), 1) := by decide +kernel
theorem dX0_descends_17 : decode cX0_descends 17 = .ok (.ireturn, 1) := by decide +kernel
theorem dX0_descends_18 : decode cX0_descends 18 = .ok (.aload_n 0, 1) := by decide +kernel
theorem dX0_descends_19 : decode cX0_descends 19 = .ok (.iload_n 1, 1) := by decide +kernel
theorem dX0_descends_20 : decode cX0_descends 20 = .ok (.invokevirtual 59, 3) := by decide +kernel
theorem dX0_descends_23 : decode cX0_descends 23 = .ok (.istore_n 3, 1) := by decide +kernel
theorem dX0_descends_24 : decode cX0_descends 24 = .ok (.aload_n 0, 1) := by decide +kernel
theorem dX0_descends_25 : decode cX0_descends 25 = .ok (.iload_n 2, 1) := by decide +kernel
theorem dX0_descends_26 : decode cX0_descends 26 = .ok (.invokevirtual 59, 3) := by decide +kernel
theorem dX0_descends_29 : decode cX0_descends 29 = .ok (.istore 4, 2) := by decide +kernel
theorem dX0_descends_31 : decode cX0_descends 31 = .ok (.iload 4, 2) := by decide +kernel
theorem dX0_descends_33 : decode cX0_descends 33 = .ok (.iload_n 3, 1) := by decide +kernel
theorem dX0_descends_34 : decode cX0_descends 34 = .ok (.if_icmp .le 17, 3) := by decide +kernel
theorem dX0_descends_37 : decode cX0_descends 37 = .ok (.iload 4, 2) := by decide +kernel
theorem dX0_descends_39 : decode cX0_descends 39 = .ok (.aload_n 0, 1) := by decide +kernel
theorem dX0_descends_40 : decode cX0_descends 40 = .ok (.iload_n 3, 1) := by decide +kernel
theorem dX0_descends_41 : decode cX0_descends 41 = .ok (.invokevirtual 63, 3) := by decide +kernel
theorem dX0_descends_44 : decode cX0_descends 44 = .ok (.if_icmp .ge 7, 3) := by decide +kernel
theorem dX0_descends_47 : decode cX0_descends 47 = .ok (.iconst 1, 1) := by decide +kernel
theorem dX0_descends_48 : decode cX0_descends 48 = .ok (.goto 4, 3) := by decide +kernel
theorem dX0_descends_51 : decode cX0_descends 51 = .ok (.iconst 0, 1) := by decide +kernel
theorem dX0_descends_52 : decode cX0_descends 52 = .ok (.ireturn, 1) := by decide +kernel
theorem dX0_descendants_0 : decode cX0_descendants 0 = .ok (.aload_n 0, 1) := by decide +kernel
theorem dX0_descendants_1 : decode cX0_descendants 1 = .ok (.iload_n 1, 1) := by decide +kernel
theorem dX0_descendants_2 : decode cX0_descendants 2 = .ok (.invokevirtual 44, 3) := by decide +kernel
theorem dX0_descendants_5 : decode cX0_descendants 5 = .ok (.ifCond .ne 5, 3) := by decide +kernel
theorem dX0_descendants_8 : decode cX0_descendants 8 = .ok (.iconst (-1), 1) := by decide +kernel
theorem dX0_descendants_9 : decode cX0_descendants 9 = .ok (.ireturn, 1) := by decide +kernel
theorem dX0_descendants_10 : decode cX0_descendants 10 = .ok (.aload_n 0, 1) := by decide +kernel
theorem dX0_descendants_11 : decode cX0_descendants 11 = .ok (.iload_n 1, 1) := by decide +kernel
theorem dX0_descendants_12 : decode cX0_descendants 12 = .ok (.invokevirtual 59, 3) := by decide +kernel
theorem dX0_descendants_15 : decode cX0_descendants 15 = .ok (.istore_n 2, 1) := by decide +kernel
theorem dX0_descendants_16 : decode cX0_descendants 16 = .ok (.aload_n 0, 1) := by decide +kernel
theorem dX0_descendants_17 : decode cX0_descendants 17 = .ok (.iload_n 2, 1) := by decide +kernel
theorem dX0_descendants_18 : decode cX0_descendants 18 = .ok (.invokevirtual 63, 3) := by decide +kernel
theorem dX0_descendants_21 : decode cX0_descendants 21 = .ok (.iload_n 2, 1) := by decide +kernel
theorem dX0_descendants_22 : decode cX0_descendants 22 = .ok (.isub, 1) := by decide +kernel
theorem dX0_descendants_23 : decode cX0_descendants 23 = .ok (.iconst 1, 1) := by decide +kernel
theorem dX0_descendants_24 : decode cX0_descendants 24 = .ok (.isub, 1) := by decide +kernel
theorem dX0_descendants_25 : decode cX0_descendants 25 = .ok (.ireturn, 1) := by decide +kernel
theorem dX0_keys_0 : decode cX0_keys 0 = .ok (.aload_n 0, 1) := by decide +kernel
theorem dX0_keys_1 : decode cX0_keys 1 = .ok (.getfield 41, 3) := by decide +kernel
theorem dX0_keys_4 : decode cX0_keys 4 = .ok (.ireturn, 1) := by decide +kernel
end
section
set_option maxRecDepth 100000
theorem dX1_init_0 : decode cX1_init 0 = .ok (.aload_n 0, 1) := by decide +kernel
theorem dX1_init_1 : decode cX1_init 1 = .ok (.invokespecial 1, 3) := by decide +kernel
theorem dX1_init_4 : decode cX1_init 4 = .ok (.aload_n 0, 1) := by decide +kernel
theorem dX1_init_5 : decode cX1_init 5 = .ok (.bipush 16, 2) := by decide +kernel
theorem dX1_init_7 : decode cX1_init 7 = .ok (.newarray .boolean, 2) := by decide +kernel
theorem dX1_init_9 : decode cX1_init 9 = .ok (.putfield 7, 3) := by decide +kernel
theorem dX1_init_12 : decode cX1_init 12 = .ok (.aload_n 0, 1) := by decide +kernel
theorem dX1_init_13 : decode cX1_init 13 = .ok (.bipush 16, 2) := by decide +kernel
theorem dX1_init_15 : decode cX1_init 15 = .ok (.newarray .int, 2) := by decide +kernel
theorem dX1_init_17 : decode cX1_init 17 = .ok (.putfield 13, 3) := by decide +kernel
theorem dX1_init_20 : decode cX1_init 20 = .ok (.aload_n 0, 1) := by decide +kernel
theorem dX1_init_21 : decode cX1_init 21 = .ok (.bipush 16, 2) := by decide +kernel
theorem dX1_init_23 : decode cX1_init 23 = .ok (.newarray .int, 2) := by decide +kernel
theorem dX1_init_25 : decode cX1_init 25 = .ok (.putfield 17, 3) := by decide +kernel
theorem dX1_init_28 : decode cX1_init 28 = .ok (.aload_n 0, 1) := by decide +kernel
theorem dX1_init_29 : decode cX1_init 29 = .ok (.bipush 16, 2) := by decide +kernel
theorem dX1_init_31 : decode cX1_init 31 = .ok (.newarray .int, 2) := by decide +kernel
theorem dX1_init_33 : decode cX1_init 33 = .ok (.putfield 20, 3) := by decide +kernel
theorem dX1_init_36 : decode cX1_init 36 = .ok (.aload_n 0, 1) := by decide +kernel
theorem dX1_init_37 : decode cX1_init 37 = .ok (.bipush 16, 2) := by decide +kernel
theorem dX1_init_39 : decode cX1_init 39 = .ok (.newarray .int, 2) := by decide +kernel
theorem dX1_init_41 : decode cX1_init 41 = .ok (.putfield 23, 3) := by decide +kernel
theorem dX1_init_44 : decode cX1_init 44 = .ok (.aload_n 0, 1) := by decide +kernel
theorem dX1_init_45 : decode cX1_init 45 = .ok (.bipush 16, 2) := by decide +kernel
theorem dX1_init_47 : decode cX1_init 47 = .ok (.newarray .int, 2) := by decide +kernel
theorem dX1_init_49 : decode cX1_init 49 = .ok (.putfield 26, 3) := by decide +kernel
theorem dX1_init_52 : decode cX1_init 52 = .ok (.aload_n 0, 1) := by decide +kernel
theorem dX1_init_53 : decode cX1_init 53 = .ok (.bipush 16, 2) := by decide +kernel
theorem dX1_init_55 : decode cX1_init 55 = .ok (.newarray .int, 2) := by decide +kernel
theorem dX1_init_57 : decode cX1_init 57 = .ok (.putfield 29, 3) := by decide +kernel
theorem dX1_init_60 : decode cX1_init 60 = .ok (.aload_n 0, 1) := by decide +kernel
theorem dX1_init_61 : decode cX1_init 61 = .ok (.bipush 16, 2) := by decide +kernel
theorem dX1_init_63 : decode cX1_init 63 = .ok (.newarray .int, 2) := by decide +kernel
theorem dX1_init_65 : decode cX1_init 65 = .ok (.putfield 32, 3) := by decide +kernel
theorem dX1_init_68 : decode cX1_init 68 = .ok (.aload_n 0, 1) := by decide +kernel
theorem dX1_init_69 : decode cX1_init 69 = .ok (.iconst 1, 1) := by decide +kernel
theorem dX1_init_70 : decode cX1_init 70 = .ok (.putfield 35, 3) := by decide +kernel
theorem dX1_init_73 : decode cX1_init 73 = .ok (.aload_n 0, 1) := by decide +kernel
theorem dX1_init_74 : decode cX1_init 74 = .ok (.bipush 16, 2) := by decide +kernel
theorem dX1_init_76 : decode cX1_init 76 = .ok (.newarray .boolean, 2) := by decide +kernel
theorem dX1_init_78 : decode cX1_init 78 = .ok (.putfield 39, 3) := by decide +kernel
theorem dX1_init_81 : decode cX1_init 81 = .ok (.aload_n 0, 1) := by decide +kernel
theorem dX1_init_82 : decode cX1_init 82 = .ok (.getfield 7, 3) := by decide +kernel
theorem dX1_init_85 : decode cX1_init 85 = .ok (.iconst 0, 1) := by decide +kernel
theorem dX1_init_86 : decode cX1_init 86 = .ok (.iconst 1, 1) := by decide +kernel
theorem dX1_init_87 : decode cX1_init 87 = .ok (.bastore, 1) := by decide +kernel
theorem dX1_init_88 : decode cX1_init 88 = .ok (.aload_n 0, 1) := by decide +kernel
theorem dX1_init_89 : decode cX1_init 89 = .ok (.getfield 17, 3) := by decide +kernel
theorem dX1_init_92 : decode cX1_init 92 = .ok (.iconst 0, 1) := by decide +kernel
theorem dX1_init_93 : decode cX1_init 93 = .ok (.bipush 7, 2) := by decide +kernel
theorem dX1_init_95 : decode cX1_init 95 = .ok (.iastore, 1) := by decide +kernel
theorem dX1_init_96 : decode cX1_init 96 = .ok (.aload_n 0, 1) := by decide +kernel
theorem dX1_init_97 : decode cX1_init 97 = .ok (.getfield 20, 3) := by decide +kernel
theorem dX1_init_100 : decode cX1_init 100 = .ok (.iconst 0, 1) := by decide +kernel
theorem dX1_init_101 : decode cX1_init 101 = .ok (.iconst (-1), 1) := by decide +kernel
theorem dX1_init_102 : decode cX1_init 102 = .ok (.iastore, 1) := by decide +kernel
theorem dX1_init_103 : decode cX1_init 103 = .ok (.aload_n 0, 1) := by decide +kernel
theorem dX1_init_104 : decode cX1_init 104 = .ok (.getfield 26, 3) := by decide +kernel
theorem dX1_init_107 : decode cX1_init 107 = .ok (.iconst 0, 1) := by decide +kernel
theorem dX1_init_108 : decode cX1_init 108 = .ok (.bipush 64, 2) := by decide +kernel
theorem dX1_init_110 : decode cX1_init 110 = .ok (.iastore, 1) := by decide +kernel
theorem dX1_init_111 : decode cX1_init 111 = .ok (.return_, 1) := by decide +kernel
theorem dX1_split_0 : decode cX1_split 0 = .ok (.aload_n 0, 1) := by decide +kernel
theorem dX1_split_1 : decode cX1_split 1 = .ok (.iload_n 1, 1) := by decide +kernel
theorem dX1_split_2 : decode cX1_split 2 = .ok (.invokevirtual 50, 3) := by decide +kernel
theorem dX1_split_5 : decode cX1_split 5 = .ok (.ifCond .ne 11, 3) := by decide +kernel
theorem dX1_split_8 : decode cX1_split 8 = .ok (.aload_n 0, 1) := by decide +kernel
theorem dX1_split_9 : decode cX1_split 9 = .ok (.iload_n 2, 1) := by decide +kernel
theorem dX1_split_10 : decode cX1_split 10 = .ok (.invokevirtual 53, 3) := by decide +kernel
theorem dX1_split_13 : decode cX1_split 13 = .ok (.ifCond .eq 5, 3) := by decide +kernel
theorem dX1_split_16 : decode cX1_split 16 = .ok (.iconst (-1), 1) := by decide +kernel
theorem dX1_split_17 : decode cX1_split 17 = .ok (.ireturn, 1) := by decide +kernel
theorem dX1_split_18 : decode cX1_split 18 = .ok (.aload_n 0, 1) := by decide +kernel
theorem dX1_split_19 : decode cX1_split 19 = .ok (.getfield 13, 3) := by decide +kernel
theorem dX1_split_22 : decode cX1_split 22 = .ok (.iload_n 1, 1) := by decide +kernel
theorem dX1_split_23 : decode cX1_split 23 = .ok (.iaload, 1) := by decide +kernel
theorem dX1_split_24 : decode cX1_split 24 = .ok (.istore 4, 2) := by decide +kernel
theorem dX1_split_26 : decode cX1_split 26 = .ok (.iload_n 3, 1) := by decide +kernel
theorem dX1_split_27 : decode cX1_split 27 = .ok (.iconst 1, 1) := by decide +kernel
theorem dX1_split_28 : decode cX1_split 28 = .ok (.if_icmp .lt 22, 3) := by decide +kernel
theorem dX1_split_31 : decode cX1_split 31 = .ok (.iload_n 3, 1) := by decide +kernel
theorem dX1_split_32 : decode cX1_split 32 = .ok (.aload_n 0, 1) := by decide +kernel
theorem dX1_split_33 : decode cX1_split 33 = .ok (.getfield 26, 3) := by decide +kernel
theorem dX1_split_36 : decode cX1_split 36 = .ok (.iload 4, 2) := by decide +kernel
theorem dX1_split_38 : decode cX1_split 38 = .ok (.iaload, 1) := by decide +kernel
theorem dX1_split_39 : decode cX1_split 39 = .ok (.aload_n 0, 1) := by decide +kernel
theorem dX1_split_40 : decode cX1_split 40 = .ok (.getfield 29, 3) := by decide +kernel
theorem dX1_split_43 : decode cX1_split 43 = .ok (.iload 4, 2) := by decide +kernel
theorem dX1_split_45 : decode cX1_split 45 = .ok (.iaload, 1) := by decide +kernel
theorem dX1_split_46 : decode cX1_split 46 = .ok (.isub, 1) := by decide +kernel
theorem dX1_split_47 : decode cX1_split 47 = .ok (.if_icmp .le 5, 3) := by decide +kernel
theorem dX1_split_50 : decode cX1_split 50 = .ok (.iconst (-1), 1) := by decide +kernel
theorem dX1_split_51 : decode cX1_split 51 = .ok (.ireturn, 1) := by decide +kernel
theorem dX1_split_52 : decode cX1_split 52 = .ok (.iconst 0, 1) := by decide +kernel
theorem dX1_split_53 : decode cX1_split 53 = .ok (.istore 5, 2) := by decide +kernel
theorem dX1_split_55 : decode cX1_split 55 = .ok (.iload 5, 2) := by decide +kernel
theorem dX1_split_57 : decode cX1_split 57 = .ok (.bipush 15, 2) := by decide +kernel
theorem dX1_split_59 : decode cX1_split 59 = .ok (.if_icmp .ge 18, 3) := by decide +kernel
theorem dX1_split_62 : decode cX1_split 62 = .ok (.aload_n 0, 1) := by decide +kernel
theorem dX1_split_63 : decode cX1_split 63 = .ok (.iload 5, 2) := by decide +kernel
theorem dX1_split_65 : decode cX1_split 65 = .ok (.invokevirtual 46, 3) := by decide +kernel
theorem dX1_split_68 : decode cX1_split 68 = .ok (.ifCond .eq 9, 3) := by decide +kernel
theorem dX1_split_71 : decode cX1_split 71 = .ok (.iinc 5 1, 3) := by decide +kernel
theorem dX1_split_74 : decode cX1_split 74 = .ok (.goto (-19), 3) := by decide +kernel
theorem dX1_split_77 : decode cX1_split 77 = .ok (.aload_n 0, 1) := by decide +kernel
theorem dX1_split_78 : decode cX1_split 78 = .ok (.getfield 23, 3) := by decide +kernel
theorem dX1_split_81 : decode cX1_split 81 = .ok (.iload 5, 2) := by decide +kernel
theorem dX1_split_83 : decode cX1_split 83 = .ok (.aload_n 0, 1) := by decide +kernel
theorem dX1_split_84 : decode cX1_split 84 = .ok (.getfield 23, 3) := by decide +kernel
theorem dX1_split_87 : decode cX1_split 87 = .ok (.iload 4, 2) := by decide +kernel
theorem dX1_split_89 : decode cX1_split 89 = .ok (.iaload, 1) := by decide +kernel
theorem dX1_split_90 : decode cX1_split 90 = .ok (.aload_n 0, 1) := by decide +kernel
theorem dX1_split_91 : decode cX1_split 91 = .ok (.getfield 29, 3) := by decide +kernel
theorem dX1_split_94 : decode cX1_split 94 = .ok (.iload 4, 2) := by decide +kernel
theorem dX1_split_96 : decode cX1_split 96 = .ok (.iaload, 1) := by decide +kernel
theorem dX1_split_97 : decode cX1_split 97 = .ok (.iadd, 1) := by decide +kernel
theorem dX1_split_98 : decode cX1_split 98 = .ok (.iastore, 1) := by decide +kernel
theorem dX1_split_99 : decode cX1_split 99 = .ok (.aload_n 0, 1) := by decide +kernel
theorem dX1_split_100 : decode cX1_split 100 = .ok (.getfield 26, 3) := by decide +kernel
theorem dX1_split_103 : decode cX1_split 103 = .ok (.iload 5, 2) := by decide +kernel
theorem dX1_split_105 : decode cX1_split 105 = .ok (.iload_n 3, 1) := by decide +kernel
theorem dX1_split_106 : decode cX1_split 106 = .ok (.iastore, 1) := by decide +kernel
theorem dX1_split_107 : decode cX1_split 107 = .ok (.aload_n 0, 1) := by decide +kernel
theorem dX1_split_108 : decode cX1_split 108 = .ok (.getfield 29, 3) := by decide +kernel
theorem dX1_split_111 : decode cX1_split 111 = .ok (.iload 5, 2) := by decide +kernel
theorem dX1_split_113 : decode cX1_split 113 = .ok (.iconst 0, 1) := by decide +kernel
theorem dX1_split_114 : decode cX1_split 114 = .ok (.iastore, 1) := by decide +kernel
theorem dX1_split_115 : decode cX1_split 115 = .ok (.aload_n 0, 1) := by decide +kernel
theorem dX1_split_116 : decode cX1_split 116 = .ok (.getfield 32, 3) := by decide +kernel
theorem dX1_split_119 : decode cX1_split 119 = .ok (.iload 5, 2) := by decide +kernel
theorem dX1_split_121 : decode cX1_split 121 = .ok (.aload_n 0, 1) := by decide +kernel
theorem dX1_split_122 : decode cX1_split 122 = .ok (.getfield 35, 3) := by decide +kernel
theorem dX1_split_125 : decode cX1_split 125 = .ok (.iastore, 1) := by decide +kernel
theorem dX1_split_126 : decode cX1_split 126 = .ok (.aload_n 0, 1) := by decide +kernel
theorem dX1_split_127 : decode cX1_split 127 = .ok (.dup, 1) := by decide +kernel
theorem dX1_split_128 : decode cX1_split 128 = .ok (.getfield 35, 3) := by decide +kernel
theorem dX1_split_131 : decode cX1_split 131 = .ok (.iconst 1, 1) := by decide +kernel
theorem dX1_split_132 : decode cX1_split 132 = .ok (.iadd, 1) := by decide +kernel
theorem dX1_split_133 : decode cX1_split 133 = .ok (.putfield 35, 3) := by decide +kernel
theorem dX1_split_136 : decode cX1_split 136 = .ok (.aload_n 0, 1) := by decide +kernel
theorem dX1_split_137 : decode cX1_split 137 = .ok (.getfield 29, 3) := by decide +kernel
theorem dX1_split_140 : decode cX1_split 140 = .ok (.iload 4, 2) := by decide +kernel
theorem dX1_split_142 : decode cX1_split 142 = .ok (.dup2, 1) := by decide +kernel
theorem dX1_split_143 : decode cX1_split 143 = .ok (.iaload, 1) := by decide +kernel
theorem dX1_split_144 : decode cX1_split 144 = .ok (.iload_n 3, 1) := by decide +kernel
theorem dX1_split_145 : decode cX1_split 145 = .ok (.iadd, 1) := by decide +kernel
theorem dX1_split_146 : decode cX1_split 146 = .ok (.iastore, 1) := by decide +kernel
theorem dX1_split_147 : decode cX1_split 147 = .ok (.aload_n 0, 1) := by decide +kernel
theorem dX1_split_148 : decode cX1_split 148 = .ok (.iload_n 2, 1) := by decide +kernel
theorem dX1_split_149 : decode cX1_split 149 = .ok (.iload 5, 2) := by decide +kernel
theorem dX1_split_151 : decode cX1_split 151 = .ok (.aload_n 0, 1) := by decide +kernel
theorem dX1_split_152 : decode cX1_split 152 = .ok (.getfield 17, 3) := by decide +kernel
theorem dX1_split_155 : decode cX1_split 155 = .ok (.iload_n 1, 1) := by decide +kernel
theorem dX1_split_156 : decode cX1_split 156 = .ok (.iaload, 1) := by decide +kernel
theorem dX1_split_157 : decode cX1_split 157 = .ok (.iload_n 1, 1) := by decide +kernel
theorem dX1_split_158 : decode cX1_split 158 = .ok (.invokevirtual 56, 3) := by decide +kernel
theorem dX1_split_161 : decode cX1_split 161 = .ok (.aload_n 0, 1) := by decide +kernel
theorem dX1_split_162 : decode cX1_split 162 = .ok (.getfield 23, 3) := by decide +kernel
theorem dX1_split_165 : decode cX1_split 165 = .ok (.iload 5, 2) := by decide +kernel
theorem dX1_split_167 : decode cX1_split 167 = .ok (.iaload, 1) := by decide +kernel
theorem dX1_split_168 : decode cX1_split 168 = .ok (.ireturn, 1) := by decide +kernel
theorem dX1_missing_0 : decode cX1_missing 0 = .ok (.iload_n 1, 1) := by decide +kernel
theorem dX1_missing_1 : decode cX1_missing 1 = .ok (.ifCond .lt 18, 3) := by decide +kernel
theorem dX1_missing_4 : decode cX1_missing 4 = .ok (.iload_n 1, 1) := by decide +kernel
theorem dX1_missing_5 : decode cX1_missing 5 = .ok (.bipush 15, 2) := by decide +kernel
theorem dX1_missing_7 : decode cX1_missing 7 = .ok (.if_icmp .gt 12, 3) := by decide +kernel
theorem dX1_missing_10 : decode cX1_missing 10 = .ok (.aload_n 0, 1) := by decide +kernel
theorem dX1_missing_11 : decode cX1_missing 11 = .ok (.getfield 7, 3) := by decide +kernel
theorem dX1_missing_14 : decode cX1_missing 14 = .ok (.iload_n 1, 1) := by decide +kernel
theorem dX1_missing_15 : decode cX1_missing 15 = .ok (.baload, 1) := by decide +kernel
theorem dX1_missing_16 : decode cX1_missing 16 = .ok (.ifCond .ne 7, 3) := by decide +kernel
theorem dX1_missing_19 : decode cX1_missing 19 = .ok (.iconst 1, 1) := by decide +kernel
theorem dX1_missing_20 : decode cX1_missing 20 = .ok (.goto 4, 3) := by decide +kernel
theorem dX1_missing_23 : decode cX1_missing 23 = .ok (.iconst 0, 1) := by decide +kernel
theorem dX1_missing_24 : decode cX1_missing 24 = .ok (.ireturn, 1) := by decide +kernel
theorem dX1_taken_0 : decode cX1_taken 0 = .ok (.iload_n 1, 1) := by decide +kernel
theorem dX1_taken_1 : decode cX1_taken 1 = .ok (.ifCond .lt 18, 3) := by decide +kernel
theorem dX1_taken_4 : decode cX1_taken 4 = .ok (.iload_n 1, 1) := by decide +kernel
theorem dX1_taken_5 : decode cX1_taken 5 = .ok (.bipush 15, 2) := by decide +kernel
theorem dX1_taken_7 : decode cX1_taken 7 = .ok (.if_icmp .gt 12, 3) := by decide +kernel
theorem dX1_taken_10 : decode cX1_taken 10 = .ok (.aload_n 0, 1) := by decide +kernel
theorem dX1_taken_11 : decode cX1_taken 11 = .ok (.getfield 7, 3) := by decide +kernel
theorem dX1_taken_14 : decode cX1_taken 14 = .ok (.iload_n 1, 1) := by decide +kernel
theorem dX1_taken_15 : decode cX1_taken 15 = .ok (.baload, 1) := by decide +kernel
theorem dX1_taken_16 : decode cX1_taken 16 = .ok (.ifCond .eq 7, 3) := by decide +kernel
theorem dX1_taken_19 : decode cX1_taken 19 = .ok (.iconst 1, 1) := by decide +kernel
theorem dX1_taken_20 : decode cX1_taken 20 = .ok (.goto 4, 3) := by decide +kernel
theorem dX1_taken_23 : decode cX1_taken 23 = .ok (.iconst 0, 1) := by decide +kernel
theorem dX1_taken_24 : decode cX1_taken 24 = .ok (.ireturn, 1) := by decide +kernel
theorem dX1_there_0 : decode cX1_there 0 = .ok (.iconst 0, 1) := by decide +kernel
theorem dX1_there_1 : decode cX1_there 1 = .ok (.istore_n 2, 1) := by decide +kernel
theorem dX1_there_2 : decode cX1_there 2 = .ok (.iload_n 2, 1) := by decide +kernel
theorem dX1_there_3 : decode cX1_there 3 = .ok (.bipush 16, 2) := by decide +kernel
theorem dX1_there_5 : decode cX1_there 5 = .ok (.if_icmp .ge 30, 3) := by decide +kernel
theorem dX1_there_8 : decode cX1_there 8 = .ok (.aload_n 0, 1) := by decide +kernel
theorem dX1_there_9 : decode cX1_there 9 = .ok (.getfield 7, 3) := by decide +kernel
theorem dX1_there_12 : decode cX1_there 12 = .ok (.iload_n 2, 1) := by decide +kernel
theorem dX1_there_13 : decode cX1_there 13 = .ok (.baload, 1) := by decide +kernel
theorem dX1_there_14 : decode cX1_there 14 = .ok (.ifCond .eq 15, 3) := by decide +kernel
theorem dX1_there_17 : decode cX1_there 17 = .ok (.aload_n 0, 1) := by decide +kernel
theorem dX1_there_18 : decode cX1_there 18 = .ok (.getfield 13, 3) := by decide +kernel
theorem dX1_there_21 : decode cX1_there 21 = .ok (.iload_n 2, 1) := by decide +kernel
theorem dX1_there_22 : decode cX1_there 22 = .ok (.iaload, 1) := by decide +kernel
theorem dX1_there_23 : decode cX1_there 23 = .ok (.iload_n 1, 1) := by decide +kernel
theorem dX1_there_24 : decode cX1_there 24 = .ok (.if_icmp .ne 5, 3) := by decide +kernel
theorem dX1_there_27 : decode cX1_there 27 = .ok (.iconst 1, 1) := by decide +kernel
theorem dX1_there_28 : decode cX1_there 28 = .ok (.ireturn, 1) := by decide +kernel
theorem dX1_there_29 : decode cX1_there 29 = .ok (.iinc 2 1, 3) := by decide +kernel
theorem dX1_there_32 : decode cX1_there 32 = .ok (.goto (-30), 3) := by decide +kernel
theorem dX1_there_35 : decode cX1_there 35 = .ok (.iconst 0, 1) := by decide +kernel
theorem dX1_there_36 : decode cX1_there 36 = .ok (.ireturn, 1) := by decide +kernel
theorem dX1_hold_0 : decode cX1_hold 0 = .ok (.aload_n 0, 1) := by decide +kernel
theorem dX1_hold_1 : decode cX1_hold 1 = .ok (.getfield 7, 3) := by decide +kernel
theorem dX1_hold_4 : decode cX1_hold 4 = .ok (.iload_n 1, 1) := by decide +kernel
theorem dX1_hold_5 : decode cX1_hold 5 = .ok (.iconst 1, 1) := by decide +kernel
theorem dX1_hold_6 : decode cX1_hold 6 = .ok (.bastore, 1) := by decide +kernel
theorem dX1_hold_7 : decode cX1_hold 7 = .ok (.aload_n 0, 1) := by decide +kernel
theorem dX1_hold_8 : decode cX1_hold 8 = .ok (.getfield 13, 3) := by decide +kernel
theorem dX1_hold_11 : decode cX1_hold 11 = .ok (.iload_n 1, 1) := by decide +kernel
theorem dX1_hold_12 : decode cX1_hold 12 = .ok (.iload_n 2, 1) := by decide +kernel
theorem dX1_hold_13 : decode cX1_hold 13 = .ok (.iastore, 1) := by decide +kernel
theorem dX1_hold_14 : decode cX1_hold 14 = .ok (.aload_n 0, 1) := by decide +kernel
theorem dX1_hold_15 : decode cX1_hold 15 = .ok (.getfield 17, 3) := by decide +kernel
theorem dX1_hold_18 : decode cX1_hold 18 = .ok (.iload_n 1, 1) := by decide +kernel
theorem dX1_hold_19 : decode cX1_hold 19 = .ok (.iload_n 3, 1) := by decide +kernel
theorem dX1_hold_20 : decode cX1_hold 20 = .ok (.iastore, 1) := by decide +kernel
theorem dX1_hold_21 : decode cX1_hold 21 = .ok (.aload_n 0, 1) := by decide +kernel
theorem dX1_hold_22 : decode cX1_hold 22 = .ok (.getfield 20, 3) := by decide +kernel
theorem dX1_hold_25 : decode cX1_hold 25 = .ok (.iload_n 1, 1) := by decide +kernel
theorem dX1_hold_26 : decode cX1_hold 26 = .ok (.iload 4, 2) := by decide +kernel
theorem dX1_hold_28 : decode cX1_hold 28 = .ok (.iastore, 1) := by decide +kernel
theorem dX1_hold_29 : decode cX1_hold 29 = .ok (.return_, 1) := by decide +kernel
theorem dX1_copy_0 : decode cX1_copy 0 = .ok (.aload_n 0, 1) := by decide +kernel
theorem dX1_copy_1 : decode cX1_copy 1 = .ok (.iload_n 1, 1) := by decide +kernel
theorem dX1_copy_2 : decode cX1_copy 2 = .ok (.invokevirtual 50, 3) := by decide +kernel
theorem dX1_copy_5 : decode cX1_copy 5 = .ok (.ifCond .ne 11, 3) := by decide +kernel
theorem dX1_copy_8 : decode cX1_copy 8 = .ok (.aload_n 0, 1) := by decide +kernel
theorem dX1_copy_9 : decode cX1_copy 9 = .ok (.iload_n 2, 1) := by decide +kernel
theorem dX1_copy_10 : decode cX1_copy 10 = .ok (.invokevirtual 53, 3) := by decide +kernel
theorem dX1_copy_13 : decode cX1_copy 13 = .ok (.ifCond .eq 5, 3) := by decide +kernel
theorem dX1_copy_16 : decode cX1_copy 16 = .ok (.iconst (-1), 1) := by decide +kernel
theorem dX1_copy_17 : decode cX1_copy 17 = .ok (.ireturn, 1) := by decide +kernel
theorem dX1_copy_18 : decode cX1_copy 18 = .ok (.aload_n 0, 1) := by decide +kernel
theorem dX1_copy_19 : decode cX1_copy 19 = .ok (.iload_n 2, 1) := by decide +kernel
theorem dX1_copy_20 : decode cX1_copy 20 = .ok (.aload_n 0, 1) := by decide +kernel
theorem dX1_copy_21 : decode cX1_copy 21 = .ok (.getfield 13, 3) := by decide +kernel
theorem dX1_copy_24 : decode cX1_copy 24 = .ok (.iload_n 1, 1) := by decide +kernel
theorem dX1_copy_25 : decode cX1_copy 25 = .ok (.iaload, 1) := by decide +kernel
theorem dX1_copy_26 : decode cX1_copy 26 = .ok (.aload_n 0, 1) := by decide +kernel
theorem dX1_copy_27 : decode cX1_copy 27 = .ok (.getfield 17, 3) := by decide +kernel
theorem dX1_copy_30 : decode cX1_copy 30 = .ok (.iload_n 1, 1) := by decide +kernel
theorem dX1_copy_31 : decode cX1_copy 31 = .ok (.iaload, 1) := by decide +kernel
theorem dX1_copy_32 : decode cX1_copy 32 = .ok (.iload_n 3, 1) := by decide +kernel
theorem dX1_copy_33 : decode cX1_copy 33 = .ok (.iand, 1) := by decide +kernel
theorem dX1_copy_34 : decode cX1_copy 34 = .ok (.iload_n 1, 1) := by decide +kernel
theorem dX1_copy_35 : decode cX1_copy 35 = .ok (.invokevirtual 56, 3) := by decide +kernel
theorem dX1_copy_38 : decode cX1_copy 38 = .ok (.aload_n 0, 1) := by decide +kernel
theorem dX1_copy_39 : decode cX1_copy 39 = .ok (.getfield 17, 3) := by decide +kernel
theorem dX1_copy_42 : decode cX1_copy 42 = .ok (.iload_n 2, 1) := by decide +kernel
theorem dX1_copy_43 : decode cX1_copy 43 = .ok (.iaload, 1) := by decide +kernel
theorem dX1_copy_44 : decode cX1_copy 44 = .ok (.ireturn, 1) := by decide +kernel
theorem dX1_move_0 : decode cX1_move 0 = .ok (.aload_n 0, 1) := by decide +kernel
theorem dX1_move_1 : decode cX1_move 1 = .ok (.iload_n 1, 1) := by decide +kernel
theorem dX1_move_2 : decode cX1_move 2 = .ok (.invokevirtual 50, 3) := by decide +kernel
theorem dX1_move_5 : decode cX1_move 5 = .ok (.ifCond .ne 11, 3) := by decide +kernel
theorem dX1_move_8 : decode cX1_move 8 = .ok (.aload_n 0, 1) := by decide +kernel
theorem dX1_move_9 : decode cX1_move 9 = .ok (.iload_n 2, 1) := by decide +kernel
theorem dX1_move_10 : decode cX1_move 10 = .ok (.invokevirtual 53, 3) := by decide +kernel
theorem dX1_move_13 : decode cX1_move 13 = .ok (.ifCond .eq 5, 3) := by decide +kernel
theorem dX1_move_16 : decode cX1_move 16 = .ok (.iconst (-1), 1) := by decide +kernel
theorem dX1_move_17 : decode cX1_move 17 = .ok (.ireturn, 1) := by decide +kernel
theorem dX1_move_18 : decode cX1_move 18 = .ok (.aload_n 0, 1) := by decide +kernel
theorem dX1_move_19 : decode cX1_move 19 = .ok (.iload_n 2, 1) := by decide +kernel
theorem dX1_move_20 : decode cX1_move 20 = .ok (.aload_n 0, 1) := by decide +kernel
theorem dX1_move_21 : decode cX1_move 21 = .ok (.getfield 13, 3) := by decide +kernel
theorem dX1_move_24 : decode cX1_move 24 = .ok (.iload_n 1, 1) := by decide +kernel
theorem dX1_move_25 : decode cX1_move 25 = .ok (.iaload, 1) := by decide +kernel
theorem dX1_move_26 : decode cX1_move 26 = .ok (.aload_n 0, 1) := by decide +kernel
theorem dX1_move_27 : decode cX1_move 27 = .ok (.getfield 17, 3) := by decide +kernel
theorem dX1_move_30 : decode cX1_move 30 = .ok (.iload_n 1, 1) := by decide +kernel
theorem dX1_move_31 : decode cX1_move 31 = .ok (.iaload, 1) := by decide +kernel
theorem dX1_move_32 : decode cX1_move 32 = .ok (.aload_n 0, 1) := by decide +kernel
theorem dX1_move_33 : decode cX1_move 33 = .ok (.getfield 20, 3) := by decide +kernel
theorem dX1_move_36 : decode cX1_move 36 = .ok (.iload_n 1, 1) := by decide +kernel
theorem dX1_move_37 : decode cX1_move 37 = .ok (.iaload, 1) := by decide +kernel
theorem dX1_move_38 : decode cX1_move 38 = .ok (.invokevirtual 56, 3) := by decide +kernel
theorem dX1_move_41 : decode cX1_move 41 = .ok (.aload_n 0, 1) := by decide +kernel
theorem dX1_move_42 : decode cX1_move 42 = .ok (.getfield 7, 3) := by decide +kernel
theorem dX1_move_45 : decode cX1_move 45 = .ok (.iload_n 1, 1) := by decide +kernel
theorem dX1_move_46 : decode cX1_move 46 = .ok (.iconst 0, 1) := by decide +kernel
theorem dX1_move_47 : decode cX1_move 47 = .ok (.bastore, 1) := by decide +kernel
theorem dX1_move_48 : decode cX1_move 48 = .ok (.aload_n 0, 1) := by decide +kernel
theorem dX1_move_49 : decode cX1_move 49 = .ok (.iload_n 1, 1) := by decide +kernel
theorem dX1_move_50 : decode cX1_move 50 = .ok (.iload_n 2, 1) := by decide +kernel
theorem dX1_move_51 : decode cX1_move 51 = .ok (.invokevirtual 60, 3) := by decide +kernel
theorem dX1_move_54 : decode cX1_move 54 = .ok (.pop, 1) := by decide +kernel
theorem dX1_move_55 : decode cX1_move 55 = .ok (.iconst 0, 1) := by decide +kernel
theorem dX1_move_56 : decode cX1_move 56 = .ok (.ireturn, 1) := by decide +kernel
theorem dX1_hand_0 : decode cX1_hand 0 = .ok (.iconst 0, 1) := by decide +kernel
theorem dX1_hand_1 : decode cX1_hand 1 = .ok (.istore_n 3, 1) := by decide +kernel
theorem dX1_hand_2 : decode cX1_hand 2 = .ok (.iconst 0, 1) := by decide +kernel
theorem dX1_hand_3 : decode cX1_hand 3 = .ok (.istore 4, 2) := by decide +kernel
theorem dX1_hand_5 : decode cX1_hand 5 = .ok (.iload 4, 2) := by decide +kernel
theorem dX1_hand_7 : decode cX1_hand 7 = .ok (.bipush 16, 2) := by decide +kernel
theorem dX1_hand_9 : decode cX1_hand 9 = .ok (.if_icmp .ge 41, 3) := by decide +kernel
theorem dX1_hand_12 : decode cX1_hand 12 = .ok (.aload_n 0, 1) := by decide +kernel
theorem dX1_hand_13 : decode cX1_hand 13 = .ok (.getfield 7, 3) := by decide +kernel
theorem dX1_hand_16 : decode cX1_hand 16 = .ok (.iload 4, 2) := by decide +kernel
theorem dX1_hand_18 : decode cX1_hand 18 = .ok (.baload, 1) := by decide +kernel
theorem dX1_hand_19 : decode cX1_hand 19 = .ok (.ifCond .eq 25, 3) := by decide +kernel
theorem dX1_hand_22 : decode cX1_hand 22 = .ok (.aload_n 0, 1) := by decide +kernel
theorem dX1_hand_23 : decode cX1_hand 23 = .ok (.getfield 20, 3) := by decide +kernel
theorem dX1_hand_26 : decode cX1_hand 26 = .ok (.iload 4, 2) := by decide +kernel
end
section
set_option maxRecDepth 100000
theorem dX1_hand_28 : decode cX1_hand 28 = .ok (.iaload, 1) := by decide +kernel
theorem dX1_hand_29 : decode cX1_hand 29 = .ok (.iload_n 1, 1) := by decide +kernel
theorem dX1_hand_30 : decode cX1_hand 30 = .ok (.if_icmp .ne 14, 3) := by decide +kernel
theorem dX1_hand_33 : decode cX1_hand 33 = .ok (.aload_n 0, 1) := by decide +kernel
theorem dX1_hand_34 : decode cX1_hand 34 = .ok (.getfield 20, 3) := by decide +kernel
theorem dX1_hand_37 : decode cX1_hand 37 = .ok (.iload 4, 2) := by decide +kernel
theorem dX1_hand_39 : decode cX1_hand 39 = .ok (.iload_n 2, 1) := by decide +kernel
theorem dX1_hand_40 : decode cX1_hand 40 = .ok (.iastore, 1) := by decide +kernel
theorem dX1_hand_41 : decode cX1_hand 41 = .ok (.iinc 3 1, 3) := by decide +kernel
theorem dX1_hand_44 : decode cX1_hand 44 = .ok (.iinc 4 1, 3) := by decide +kernel
theorem dX1_hand_47 : decode cX1_hand 47 = .ok (.goto (-42), 3) := by decide +kernel
theorem dX1_hand_50 : decode cX1_hand 50 = .ok (.iload_n 3, 1) := by decide +kernel
theorem dX1_hand_51 : decode cX1_hand 51 = .ok (.ireturn, 1) := by decide +kernel
theorem dX1_delete_0 : decode cX1_delete 0 = .ok (.aload_n 0, 1) := by decide +kernel
theorem dX1_delete_1 : decode cX1_delete 1 = .ok (.iload_n 1, 1) := by decide +kernel
theorem dX1_delete_2 : decode cX1_delete 2 = .ok (.invokevirtual 50, 3) := by decide +kernel
theorem dX1_delete_5 : decode cX1_delete 5 = .ok (.ifCond .eq 5, 3) := by decide +kernel
theorem dX1_delete_8 : decode cX1_delete 8 = .ok (.iconst (-1), 1) := by decide +kernel
theorem dX1_delete_9 : decode cX1_delete 9 = .ok (.ireturn, 1) := by decide +kernel
theorem dX1_delete_10 : decode cX1_delete 10 = .ok (.aload_n 0, 1) := by decide +kernel
theorem dX1_delete_11 : decode cX1_delete 11 = .ok (.getfield 7, 3) := by decide +kernel
theorem dX1_delete_14 : decode cX1_delete 14 = .ok (.iload_n 1, 1) := by decide +kernel
theorem dX1_delete_15 : decode cX1_delete 15 = .ok (.iconst 0, 1) := by decide +kernel
theorem dX1_delete_16 : decode cX1_delete 16 = .ok (.bastore, 1) := by decide +kernel
theorem dX1_delete_17 : decode cX1_delete 17 = .ok (.aload_n 0, 1) := by decide +kernel
theorem dX1_delete_18 : decode cX1_delete 18 = .ok (.iload_n 1, 1) := by decide +kernel
theorem dX1_delete_19 : decode cX1_delete 19 = .ok (.aload_n 0, 1) := by decide +kernel
theorem dX1_delete_20 : decode cX1_delete 20 = .ok (.getfield 20, 3) := by decide +kernel
theorem dX1_delete_23 : decode cX1_delete 23 = .ok (.iload_n 1, 1) := by decide +kernel
theorem dX1_delete_24 : decode cX1_delete 24 = .ok (.iaload, 1) := by decide +kernel
theorem dX1_delete_25 : decode cX1_delete 25 = .ok (.invokevirtual 60, 3) := by decide +kernel
theorem dX1_delete_28 : decode cX1_delete 28 = .ok (.istore_n 2, 1) := by decide +kernel
theorem dX1_delete_29 : decode cX1_delete 29 = .ok (.aload_n 0, 1) := by decide +kernel
theorem dX1_delete_30 : decode cX1_delete 30 = .ok (.invokevirtual 64, 3) := by decide +kernel
theorem dX1_delete_33 : decode cX1_delete 33 = .ok (.iload_n 2, 1) := by decide +kernel
theorem dX1_delete_34 : decode cX1_delete 34 = .ok (.ireturn, 1) := by decide +kernel
theorem dX1_settle_0 : decode cX1_settle 0 = .ok (.iconst 0, 1) := by decide +kernel
theorem dX1_settle_1 : decode cX1_settle 1 = .ok (.istore_n 1, 1) := by decide +kernel
theorem dX1_settle_2 : decode cX1_settle 2 = .ok (.iload_n 1, 1) := by decide +kernel
theorem dX1_settle_3 : decode cX1_settle 3 = .ok (.bipush 16, 2) := by decide +kernel
theorem dX1_settle_5 : decode cX1_settle 5 = .ok (.if_icmp .ge 55, 3) := by decide +kernel
theorem dX1_settle_8 : decode cX1_settle 8 = .ok (.iconst 0, 1) := by decide +kernel
theorem dX1_settle_9 : decode cX1_settle 9 = .ok (.istore_n 2, 1) := by decide +kernel
theorem dX1_settle_10 : decode cX1_settle 10 = .ok (.iconst 0, 1) := by decide +kernel
theorem dX1_settle_11 : decode cX1_settle 11 = .ok (.istore_n 3, 1) := by decide +kernel
theorem dX1_settle_12 : decode cX1_settle 12 = .ok (.iload_n 3, 1) := by decide +kernel
theorem dX1_settle_13 : decode cX1_settle 13 = .ok (.bipush 16, 2) := by decide +kernel
theorem dX1_settle_15 : decode cX1_settle 15 = .ok (.if_icmp .ge 28, 3) := by decide +kernel
theorem dX1_settle_18 : decode cX1_settle 18 = .ok (.aload_n 0, 1) := by decide +kernel
theorem dX1_settle_19 : decode cX1_settle 19 = .ok (.iload_n 3, 1) := by decide +kernel
theorem dX1_settle_20 : decode cX1_settle 20 = .ok (.iload_n 1, 1) := by decide +kernel
theorem dX1_settle_21 : decode cX1_settle 21 = .ok (.invokevirtual 42, 3) := by decide +kernel
theorem dX1_settle_24 : decode cX1_settle 24 = .ok (.ifCond .eq 13, 3) := by decide +kernel
theorem dX1_settle_27 : decode cX1_settle 27 = .ok (.aload_n 0, 1) := by decide +kernel
theorem dX1_settle_28 : decode cX1_settle 28 = .ok (.iload_n 3, 1) := by decide +kernel
theorem dX1_settle_29 : decode cX1_settle 29 = .ok (.invokevirtual 46, 3) := by decide +kernel
theorem dX1_settle_32 : decode cX1_settle 32 = .ok (.ifCond .eq 5, 3) := by decide +kernel
theorem dX1_settle_35 : decode cX1_settle 35 = .ok (.iconst 1, 1) := by decide +kernel
theorem dX1_settle_36 : decode cX1_settle 36 = .ok (.istore_n 2, 1) := by decide +kernel
theorem dX1_settle_37 : decode cX1_settle 37 = .ok (.iinc 3 1, 3) := by decide +kernel
theorem dX1_settle_40 : decode cX1_settle 40 = .ok (.goto (-28), 3) := by decide +kernel
theorem dX1_settle_43 : decode cX1_settle 43 = .ok (.iload_n 2, 1) := by decide +kernel
theorem dX1_settle_44 : decode cX1_settle 44 = .ok (.ifCond .ne 10, 3) := by decide +kernel
theorem dX1_settle_47 : decode cX1_settle 47 = .ok (.aload_n 0, 1) := by decide +kernel
theorem dX1_settle_48 : decode cX1_settle 48 = .ok (.getfield 29, 3) := by decide +kernel
theorem dX1_settle_51 : decode cX1_settle 51 = .ok (.iload_n 1, 1) := by decide +kernel
theorem dX1_settle_52 : decode cX1_settle 52 = .ok (.iconst 0, 1) := by decide +kernel
theorem dX1_settle_53 : decode cX1_settle 53 = .ok (.iastore, 1) := by decide +kernel
theorem dX1_settle_54 : decode cX1_settle 54 = .ok (.iinc 1 1, 3) := by decide +kernel
theorem dX1_settle_57 : decode cX1_settle 57 = .ok (.goto (-55), 3) := by decide +kernel
theorem dX1_settle_60 : decode cX1_settle 60 = .ok (.return_, 1) := by decide +kernel
theorem dX1_lies_0 : decode cX1_lies 0 = .ok (.aload_n 0, 1) := by decide +kernel
theorem dX1_lies_1 : decode cX1_lies 1 = .ok (.getfield 32, 3) := by decide +kernel
theorem dX1_lies_4 : decode cX1_lies 4 = .ok (.iload_n 1, 1) := by decide +kernel
theorem dX1_lies_5 : decode cX1_lies 5 = .ok (.iaload, 1) := by decide +kernel
theorem dX1_lies_6 : decode cX1_lies 6 = .ok (.aload_n 0, 1) := by decide +kernel
theorem dX1_lies_7 : decode cX1_lies 7 = .ok (.getfield 32, 3) := by decide +kernel
theorem dX1_lies_10 : decode cX1_lies 10 = .ok (.iload_n 2, 1) := by decide +kernel
theorem dX1_lies_11 : decode cX1_lies 11 = .ok (.iaload, 1) := by decide +kernel
theorem dX1_lies_12 : decode cX1_lies 12 = .ok (.if_icmp .le 51, 3) := by decide +kernel
theorem dX1_lies_15 : decode cX1_lies 15 = .ok (.aload_n 0, 1) := by decide +kernel
theorem dX1_lies_16 : decode cX1_lies 16 = .ok (.getfield 23, 3) := by decide +kernel
theorem dX1_lies_19 : decode cX1_lies 19 = .ok (.iload_n 1, 1) := by decide +kernel
theorem dX1_lies_20 : decode cX1_lies 20 = .ok (.iaload, 1) := by decide +kernel
theorem dX1_lies_21 : decode cX1_lies 21 = .ok (.aload_n 0, 1) := by decide +kernel
theorem dX1_lies_22 : decode cX1_lies 22 = .ok (.getfield 23, 3) := by decide +kernel
theorem dX1_lies_25 : decode cX1_lies 25 = .ok (.iload_n 2, 1) := by decide +kernel
theorem dX1_lies_26 : decode cX1_lies 26 = .ok (.iaload, 1) := by decide +kernel
theorem dX1_lies_27 : decode cX1_lies 27 = .ok (.if_icmp .lt 36, 3) := by decide +kernel
theorem dX1_lies_30 : decode cX1_lies 30 = .ok (.aload_n 0, 1) := by decide +kernel
theorem dX1_lies_31 : decode cX1_lies 31 = .ok (.getfield 23, 3) := by decide +kernel
theorem dX1_lies_34 : decode cX1_lies 34 = .ok (.iload_n 1, 1) := by decide +kernel
theorem dX1_lies_35 : decode cX1_lies 35 = .ok (.iaload, 1) := by decide +kernel
theorem dX1_lies_36 : decode cX1_lies 36 = .ok (.aload_n 0, 1) := by decide +kernel
theorem dX1_lies_37 : decode cX1_lies 37 = .ok (.getfield 26, 3) := by decide +kernel
theorem dX1_lies_40 : decode cX1_lies 40 = .ok (.iload_n 1, 1) := by decide +kernel
theorem dX1_lies_41 : decode cX1_lies 41 = .ok (.iaload, 1) := by decide +kernel
theorem dX1_lies_42 : decode cX1_lies 42 = .ok (.iadd, 1) := by decide +kernel
theorem dX1_lies_43 : decode cX1_lies 43 = .ok (.aload_n 0, 1) := by decide +kernel
theorem dX1_lies_44 : decode cX1_lies 44 = .ok (.getfield 23, 3) := by decide +kernel
theorem dX1_lies_47 : decode cX1_lies 47 = .ok (.iload_n 2, 1) := by decide +kernel
theorem dX1_lies_48 : decode cX1_lies 48 = .ok (.iaload, 1) := by decide +kernel
theorem dX1_lies_49 : decode cX1_lies 49 = .ok (.aload_n 0, 1) := by decide +kernel
theorem dX1_lies_50 : decode cX1_lies 50 = .ok (.getfield 26, 3) := by decide +kernel
theorem dX1_lies_53 : decode cX1_lies 53 = .ok (.iload_n 2, 1) := by decide +kernel
theorem dX1_lies_54 : decode cX1_lies 54 = .ok (.iaload, 1) := by decide +kernel
theorem dX1_lies_55 : decode cX1_lies 55 = .ok (.iadd, 1) := by decide +kernel
theorem dX1_lies_56 : decode cX1_lies 56 = .ok (.if_icmp .gt 7, 3) := by decide +kernel
theorem dX1_lies_59 : decode cX1_lies 59 = .ok (.iconst 1, 1) := by decide +kernel
theorem dX1_lies_60 : decode cX1_lies 60 = .ok (.goto 4, 3) := by decide +kernel
theorem dX1_lies_63 : decode cX1_lies 63 = .ok (.iconst 0, 1) := by decide +kernel
theorem dX1_lies_64 : decode cX1_lies 64 = .ok (.ireturn, 1) := by decide +kernel
theorem dX1_revoke_0 : decode cX1_revoke 0 = .ok (.aload_n 0, 1) := by decide +kernel
theorem dX1_revoke_1 : decode cX1_revoke 1 = .ok (.iload_n 1, 1) := by decide +kernel
theorem dX1_revoke_2 : decode cX1_revoke 2 = .ok (.invokevirtual 50, 3) := by decide +kernel
theorem dX1_revoke_5 : decode cX1_revoke 5 = .ok (.ifCond .eq 5, 3) := by decide +kernel
theorem dX1_revoke_8 : decode cX1_revoke 8 = .ok (.iconst (-1), 1) := by decide +kernel
theorem dX1_revoke_9 : decode cX1_revoke 9 = .ok (.ireturn, 1) := by decide +kernel
theorem dX1_revoke_10 : decode cX1_revoke 10 = .ok (.iconst 0, 1) := by decide +kernel
theorem dX1_revoke_11 : decode cX1_revoke 11 = .ok (.istore_n 2, 1) := by decide +kernel
theorem dX1_revoke_12 : decode cX1_revoke 12 = .ok (.iload_n 2, 1) := by decide +kernel
theorem dX1_revoke_13 : decode cX1_revoke 13 = .ok (.bipush 16, 2) := by decide +kernel
theorem dX1_revoke_15 : decode cX1_revoke 15 = .ok (.if_icmp .ge 38, 3) := by decide +kernel
theorem dX1_revoke_18 : decode cX1_revoke 18 = .ok (.aload_n 0, 1) := by decide +kernel
theorem dX1_revoke_19 : decode cX1_revoke 19 = .ok (.getfield 39, 3) := by decide +kernel
theorem dX1_revoke_22 : decode cX1_revoke 22 = .ok (.iload_n 2, 1) := by decide +kernel
theorem dX1_revoke_23 : decode cX1_revoke 23 = .ok (.aload_n 0, 1) := by decide +kernel
theorem dX1_revoke_24 : decode cX1_revoke 24 = .ok (.getfield 7, 3) := by decide +kernel
theorem dX1_revoke_27 : decode cX1_revoke 27 = .ok (.iload_n 2, 1) := by decide +kernel
theorem dX1_revoke_28 : decode cX1_revoke 28 = .ok (.baload, 1) := by decide +kernel
theorem dX1_revoke_29 : decode cX1_revoke 29 = .ok (.ifCond .eq 16, 3) := by decide +kernel
theorem dX1_revoke_32 : decode cX1_revoke 32 = .ok (.aload_n 0, 1) := by decide +kernel
theorem dX1_revoke_33 : decode cX1_revoke 33 = .ok (.iload_n 1, 1) := by decide +kernel
theorem dX1_revoke_34 : decode cX1_revoke 34 = .ok (.iload_n 2, 1) := by decide +kernel
theorem dX1_revoke_35 : decode cX1_revoke 35 = .ok (.invokevirtual 67, 3) := by decide +kernel
theorem dX1_revoke_38 : decode cX1_revoke 38 = .ok (.ifCond .eq 7, 3) := by decide +kernel
theorem dX1_revoke_41 : decode cX1_revoke 41 = .ok (.iconst 1, 1) := by decide +kernel
theorem dX1_revoke_42 : decode cX1_revoke 42 = .ok (.goto 4, 3) := by decide +kernel
theorem dX1_revoke_45 : decode cX1_revoke 45 = .ok (.iconst 0, 1) := by decide +kernel
theorem dX1_revoke_46 : decode cX1_revoke 46 = .ok (.bastore, 1) := by decide +kernel
theorem dX1_revoke_47 : decode cX1_revoke 47 = .ok (.iinc 2 1, 3) := by decide +kernel
theorem dX1_revoke_50 : decode cX1_revoke 50 = .ok (.goto (-38), 3) := by decide +kernel
theorem dX1_revoke_53 : decode cX1_revoke 53 = .ok (.iconst 0, 1) := by decide +kernel
theorem dX1_revoke_54 : decode cX1_revoke 54 = .ok (.istore_n 2, 1) := by decide +kernel
theorem dX1_revoke_55 : decode cX1_revoke 55 = .ok (.iconst 0, 1) := by decide +kernel
theorem dX1_revoke_56 : decode cX1_revoke 56 = .ok (.istore_n 3, 1) := by decide +kernel
theorem dX1_revoke_57 : decode cX1_revoke 57 = .ok (.iload_n 3, 1) := by decide +kernel
theorem dX1_revoke_58 : decode cX1_revoke 58 = .ok (.bipush 16, 2) := by decide +kernel
theorem dX1_revoke_60 : decode cX1_revoke 60 = .ok (.if_icmp .ge 28, 3) := by decide +kernel
theorem dX1_revoke_63 : decode cX1_revoke 63 = .ok (.aload_n 0, 1) := by decide +kernel
theorem dX1_revoke_64 : decode cX1_revoke 64 = .ok (.getfield 39, 3) := by decide +kernel
theorem dX1_revoke_67 : decode cX1_revoke 67 = .ok (.iload_n 3, 1) := by decide +kernel
theorem dX1_revoke_68 : decode cX1_revoke 68 = .ok (.baload, 1) := by decide +kernel
theorem dX1_revoke_69 : decode cX1_revoke 69 = .ok (.ifCond .eq 13, 3) := by decide +kernel
theorem dX1_revoke_72 : decode cX1_revoke 72 = .ok (.aload_n 0, 1) := by decide +kernel
theorem dX1_revoke_73 : decode cX1_revoke 73 = .ok (.getfield 7, 3) := by decide +kernel
theorem dX1_revoke_76 : decode cX1_revoke 76 = .ok (.iload_n 3, 1) := by decide +kernel
theorem dX1_revoke_77 : decode cX1_revoke 77 = .ok (.iconst 0, 1) := by decide +kernel
theorem dX1_revoke_78 : decode cX1_revoke 78 = .ok (.bastore, 1) := by decide +kernel
theorem dX1_revoke_79 : decode cX1_revoke 79 = .ok (.iinc 2 1, 3) := by decide +kernel
theorem dX1_revoke_82 : decode cX1_revoke 82 = .ok (.iinc 3 1, 3) := by decide +kernel
theorem dX1_revoke_85 : decode cX1_revoke 85 = .ok (.goto (-28), 3) := by decide +kernel
theorem dX1_revoke_88 : decode cX1_revoke 88 = .ok (.aload_n 0, 1) := by decide +kernel
theorem dX1_revoke_89 : decode cX1_revoke 89 = .ok (.invokevirtual 64, 3) := by decide +kernel
theorem dX1_revoke_92 : decode cX1_revoke 92 = .ok (.iload_n 2, 1) := by decide +kernel
theorem dX1_revoke_93 : decode cX1_revoke 93 = .ok (.ireturn, 1) := by decide +kernel
theorem dX1_below_0 : decode cX1_below 0 = .ok (.aload_n 0, 1) := by decide +kernel
theorem dX1_below_1 : decode cX1_below 1 = .ok (.getfield 20, 3) := by decide +kernel
theorem dX1_below_4 : decode cX1_below 4 = .ok (.iload_n 2, 1) := by decide +kernel
theorem dX1_below_5 : decode cX1_below 5 = .ok (.iaload, 1) := by decide +kernel
theorem dX1_below_6 : decode cX1_below 6 = .ok (.istore_n 3, 1) := by decide +kernel
theorem dX1_below_7 : decode cX1_below 7 = .ok (.iconst 0, 1) := by decide +kernel
theorem dX1_below_8 : decode cX1_below 8 = .ok (.istore 4, 2) := by decide +kernel
theorem dX1_below_10 : decode cX1_below 10 = .ok (.iload 4, 2) := by decide +kernel
theorem dX1_below_12 : decode cX1_below 12 = .ok (.bipush 16, 2) := by decide +kernel
theorem dX1_below_14 : decode cX1_below 14 = .ok (.if_icmp .ge 27, 3) := by decide +kernel
theorem dX1_below_17 : decode cX1_below 17 = .ok (.iload_n 3, 1) := by decide +kernel
theorem dX1_below_18 : decode cX1_below 18 = .ok (.ifCond .lt 23, 3) := by decide +kernel
theorem dX1_below_21 : decode cX1_below 21 = .ok (.iload_n 3, 1) := by decide +kernel
theorem dX1_below_22 : decode cX1_below 22 = .ok (.iload_n 1, 1) := by decide +kernel
theorem dX1_below_23 : decode cX1_below 23 = .ok (.if_icmp .ne 5, 3) := by decide +kernel
theorem dX1_below_26 : decode cX1_below 26 = .ok (.iconst 1, 1) := by decide +kernel
theorem dX1_below_27 : decode cX1_below 27 = .ok (.ireturn, 1) := by decide +kernel
theorem dX1_below_28 : decode cX1_below 28 = .ok (.aload_n 0, 1) := by decide +kernel
theorem dX1_below_29 : decode cX1_below 29 = .ok (.getfield 20, 3) := by decide +kernel
theorem dX1_below_32 : decode cX1_below 32 = .ok (.iload_n 3, 1) := by decide +kernel
theorem dX1_below_33 : decode cX1_below 33 = .ok (.iaload, 1) := by decide +kernel
theorem dX1_below_34 : decode cX1_below 34 = .ok (.istore_n 3, 1) := by decide +kernel
theorem dX1_below_35 : decode cX1_below 35 = .ok (.iinc 4 1, 3) := by decide +kernel
theorem dX1_below_38 : decode cX1_below 38 = .ok (.goto (-28), 3) := by decide +kernel
theorem dX1_below_41 : decode cX1_below 41 = .ok (.iconst 0, 1) := by decide +kernel
theorem dX1_below_42 : decode cX1_below 42 = .ok (.ireturn, 1) := by decide +kernel
theorem dX1_piece_0 : decode cX1_piece 0 = .ok (.aload_n 0, 1) := by decide +kernel
theorem dX1_piece_1 : decode cX1_piece 1 = .ok (.iload_n 1, 1) := by decide +kernel
theorem dX1_piece_2 : decode cX1_piece 2 = .ok (.invokevirtual 50, 3) := by decide +kernel
theorem dX1_piece_5 : decode cX1_piece 5 = .ok (.ifCond .eq 7, 3) := by decide +kernel
theorem dX1_piece_8 : decode cX1_piece 8 = .ok (.iconst (-1), 1) := by decide +kernel
theorem dX1_piece_9 : decode cX1_piece 9 = .ok (.goto 29, 3) := by decide +kernel
theorem dX1_piece_12 : decode cX1_piece 12 = .ok (.bipush 100, 2) := by decide +kernel
theorem dX1_piece_14 : decode cX1_piece 14 = .ok (.aload_n 0, 1) := by decide +kernel
theorem dX1_piece_15 : decode cX1_piece 15 = .ok (.getfield 23, 3) := by decide +kernel
theorem dX1_piece_18 : decode cX1_piece 18 = .ok (.aload_n 0, 1) := by decide +kernel
theorem dX1_piece_19 : decode cX1_piece 19 = .ok (.getfield 13, 3) := by decide +kernel
theorem dX1_piece_22 : decode cX1_piece 22 = .ok (.iload_n 1, 1) := by decide +kernel
theorem dX1_piece_23 : decode cX1_piece 23 = .ok (.iaload, 1) := by decide +kernel
theorem dX1_piece_24 : decode cX1_piece 24 = .ok (.iaload, 1) := by decide +kernel
theorem dX1_piece_25 : decode cX1_piece 25 = .ok (.imul, 1) := by decide +kernel
theorem dX1_piece_26 : decode cX1_piece 26 = .ok (.aload_n 0, 1) := by decide +kernel
theorem dX1_piece_27 : decode cX1_piece 27 = .ok (.getfield 26, 3) := by decide +kernel
theorem dX1_piece_30 : decode cX1_piece 30 = .ok (.aload_n 0, 1) := by decide +kernel
theorem dX1_piece_31 : decode cX1_piece 31 = .ok (.getfield 13, 3) := by decide +kernel
theorem dX1_piece_34 : decode cX1_piece 34 = .ok (.iload_n 1, 1) := by decide +kernel
theorem dX1_piece_35 : decode cX1_piece 35 = .ok (.iaload, 1) := by decide +kernel
theorem dX1_piece_36 : decode cX1_piece 36 = .ok (.iaload, 1) := by decide +kernel
theorem dX1_piece_37 : decode cX1_piece 37 = .ok (.iadd, 1) := by decide +kernel
theorem dX1_piece_38 : decode cX1_piece 38 = .ok (.ireturn, 1) := by decide +kernel
theorem dX1_rights_0 : decode cX1_rights 0 = .ok (.aload_n 0, 1) := by decide +kernel
theorem dX1_rights_1 : decode cX1_rights 1 = .ok (.iload_n 1, 1) := by decide +kernel
theorem dX1_rights_2 : decode cX1_rights 2 = .ok (.invokevirtual 50, 3) := by decide +kernel
theorem dX1_rights_5 : decode cX1_rights 5 = .ok (.ifCond .eq 7, 3) := by decide +kernel
theorem dX1_rights_8 : decode cX1_rights 8 = .ok (.iconst (-1), 1) := by decide +kernel
theorem dX1_rights_9 : decode cX1_rights 9 = .ok (.goto 9, 3) := by decide +kernel
theorem dX1_rights_12 : decode cX1_rights 12 = .ok (.aload_n 0, 1) := by decide +kernel
theorem dX1_rights_13 : decode cX1_rights 13 = .ok (.getfield 17, 3) := by decide +kernel
theorem dX1_rights_16 : decode cX1_rights 16 = .ok (.iload_n 1, 1) := by decide +kernel
theorem dX1_rights_17 : decode cX1_rights 17 = .ok (.iaload, 1) := by decide +kernel
theorem dX1_rights_18 : decode cX1_rights 18 = .ok (.ireturn, 1) := by decide +kernel
theorem dX1_room_0 : decode cX1_room 0 = .ok (.aload_n 0, 1) := by decide +kernel
theorem dX1_room_1 : decode cX1_room 1 = .ok (.iload_n 1, 1) := by decide +kernel
theorem dX1_room_2 : decode cX1_room 2 = .ok (.invokevirtual 50, 3) := by decide +kernel
theorem dX1_room_5 : decode cX1_room 5 = .ok (.ifCond .eq 7, 3) := by decide +kernel
theorem dX1_room_8 : decode cX1_room 8 = .ok (.iconst (-1), 1) := by decide +kernel
theorem dX1_room_9 : decode cX1_room 9 = .ok (.goto 26, 3) := by decide +kernel
theorem dX1_room_12 : decode cX1_room 12 = .ok (.aload_n 0, 1) := by decide +kernel
theorem dX1_room_13 : decode cX1_room 13 = .ok (.getfield 26, 3) := by decide +kernel
theorem dX1_room_16 : decode cX1_room 16 = .ok (.aload_n 0, 1) := by decide +kernel
theorem dX1_room_17 : decode cX1_room 17 = .ok (.getfield 13, 3) := by decide +kernel
theorem dX1_room_20 : decode cX1_room 20 = .ok (.iload_n 1, 1) := by decide +kernel
theorem dX1_room_21 : decode cX1_room 21 = .ok (.iaload, 1) := by decide +kernel
theorem dX1_room_22 : decode cX1_room 22 = .ok (.iaload, 1) := by decide +kernel
theorem dX1_room_23 : decode cX1_room 23 = .ok (.aload_n 0, 1) := by decide +kernel
theorem dX1_room_24 : decode cX1_room 24 = .ok (.getfield 29, 3) := by decide +kernel
theorem dX1_room_27 : decode cX1_room 27 = .ok (.aload_n 0, 1) := by decide +kernel
theorem dX1_room_28 : decode cX1_room 28 = .ok (.getfield 13, 3) := by decide +kernel
theorem dX1_room_31 : decode cX1_room 31 = .ok (.iload_n 1, 1) := by decide +kernel
theorem dX1_room_32 : decode cX1_room 32 = .ok (.iaload, 1) := by decide +kernel
theorem dX1_room_33 : decode cX1_room 33 = .ok (.iaload, 1) := by decide +kernel
theorem dX1_room_34 : decode cX1_room 34 = .ok (.isub, 1) := by decide +kernel
theorem dX1_room_35 : decode cX1_room 35 = .ok (.ireturn, 1) := by decide +kernel
theorem dX1_descends_0 : decode cX1_descends 0 = .ok (.aload_n 0, 1) := by decide +kernel
theorem dX1_descends_1 : decode cX1_descends 1 = .ok (.iload_n 1, 1) := by decide +kernel
theorem dX1_descends_2 : decode cX1_descends 2 = .ok (.invokevirtual 50, 3) := by decide +kernel
theorem dX1_descends_5 : decode cX1_descends 5 = .ok (.ifCond .ne 11, 3) := by decide +kernel
theorem dX1_descends_8 : decode cX1_descends 8 = .ok (.aload_n 0, 1) := by decide +kernel
theorem dX1_descends_9 : decode cX1_descends 9 = .ok (.iload_n 2, 1) := by decide +kernel
theorem dX1_descends_10 : decode cX1_descends 10 = .ok (.invokevirtual 50, 3) := by decide +kernel
theorem dX1_descends_13 : decode cX1_descends 13 = .ok (.ifCond .eq 5, 3) := by decide +kernel
theorem dX1_descends_16 : decode cX1_descends 16 = .ok (.iconst (-1), 1) := by decide +kernel
theorem dX1_descends_17 : decode cX1_descends 17 = .ok (.ireturn, 1) := by decide +kernel
theorem dX1_descends_18 : decode cX1_descends 18 = .ok (.aload_n 0, 1) := by decide +kernel
theorem dX1_descends_19 : decode cX1_descends 19 = .ok (.iload_n 1, 1) := by decide +kernel
theorem dX1_descends_20 : decode cX1_descends 20 = .ok (.iload_n 2, 1) := by decide +kernel
theorem dX1_descends_21 : decode cX1_descends 21 = .ok (.invokevirtual 67, 3) := by decide +kernel
theorem dX1_descends_24 : decode cX1_descends 24 = .ok (.ifCond .eq 7, 3) := by decide +kernel
theorem dX1_descends_27 : decode cX1_descends 27 = .ok (.iconst 1, 1) := by decide +kernel
theorem dX1_descends_28 : decode cX1_descends 28 = .ok (.goto 4, 3) := by decide +kernel
theorem dX1_descends_31 : decode cX1_descends 31 = .ok (.iconst 0, 1) := by decide +kernel
theorem dX1_descends_32 : decode cX1_descends 32 = .ok (.ireturn, 1) := by decide +kernel
theorem dX1_descendants_0 : decode cX1_descendants 0 = .ok (.aload_n 0, 1) := by decide +kernel
theorem dX1_descendants_1 : decode cX1_descendants 1 = .ok (.iload_n 1, 1) := by decide +kernel
theorem dX1_descendants_2 : decode cX1_descendants 2 = .ok (.invokevirtual 50, 3) := by decide +kernel
theorem dX1_descendants_5 : decode cX1_descendants 5 = .ok (.ifCond .eq 5, 3) := by decide +kernel
theorem dX1_descendants_8 : decode cX1_descendants 8 = .ok (.iconst (-1), 1) := by decide +kernel
theorem dX1_descendants_9 : decode cX1_descendants 9 = .ok (.ireturn, 1) := by decide +kernel
theorem dX1_descendants_10 : decode cX1_descendants 10 = .ok (.iconst 0, 1) := by decide +kernel
theorem dX1_descendants_11 : decode cX1_descendants 11 = .ok (.istore_n 2, 1) := by decide +kernel
theorem dX1_descendants_12 : decode cX1_descendants 12 = .ok (.iconst 0, 1) := by decide +kernel
theorem dX1_descendants_13 : decode cX1_descendants 13 = .ok (.istore_n 3, 1) := by decide +kernel
theorem dX1_descendants_14 : decode cX1_descendants 14 = .ok (.iload_n 3, 1) := by decide +kernel
theorem dX1_descendants_15 : decode cX1_descendants 15 = .ok (.bipush 16, 2) := by decide +kernel
theorem dX1_descendants_17 : decode cX1_descendants 17 = .ok (.if_icmp .ge 30, 3) := by decide +kernel
theorem dX1_descendants_20 : decode cX1_descendants 20 = .ok (.aload_n 0, 1) := by decide +kernel
theorem dX1_descendants_21 : decode cX1_descendants 21 = .ok (.getfield 7, 3) := by decide +kernel
theorem dX1_descendants_24 : decode cX1_descendants 24 = .ok (.iload_n 3, 1) := by decide +kernel
theorem dX1_descendants_25 : decode cX1_descendants 25 = .ok (.baload, 1) := by decide +kernel
theorem dX1_descendants_26 : decode cX1_descendants 26 = .ok (.ifCond .eq 15, 3) := by decide +kernel
theorem dX1_descendants_29 : decode cX1_descendants 29 = .ok (.aload_n 0, 1) := by decide +kernel
theorem dX1_descendants_30 : decode cX1_descendants 30 = .ok (.iload_n 1, 1) := by decide +kernel
theorem dX1_descendants_31 : decode cX1_descendants 31 = .ok (.iload_n 3, 1) := by decide +kernel
theorem dX1_descendants_32 : decode cX1_descendants 32 = .ok (.invokevirtual 67, 3) := by decide +kernel
theorem dX1_descendants_35 : decode cX1_descendants 35 = .ok (.ifCond .eq 6, 3) := by decide +kernel
theorem dX1_descendants_38 : decode cX1_descendants 38 = .ok (.iinc 2 1, 3) := by decide +kernel
theorem dX1_descendants_41 : decode cX1_descendants 41 = .ok (.iinc 3 1, 3) := by decide +kernel
theorem dX1_descendants_44 : decode cX1_descendants 44 = .ok (.goto (-30), 3) := by decide +kernel
theorem dX1_descendants_47 : decode cX1_descendants 47 = .ok (.iload_n 2, 1) := by decide +kernel
theorem dX1_descendants_48 : decode cX1_descendants 48 = .ok (.ireturn, 1) := by decide +kernel
theorem dX1_keys_0 : decode cX1_keys 0 = .ok (.iconst 0, 1) := by decide +kernel
theorem dX1_keys_1 : decode cX1_keys 1 = .ok (.istore_n 1, 1) := by decide +kernel
theorem dX1_keys_2 : decode cX1_keys 2 = .ok (.iconst 0, 1) := by decide +kernel
theorem dX1_keys_3 : decode cX1_keys 3 = .ok (.istore_n 2, 1) := by decide +kernel
theorem dX1_keys_4 : decode cX1_keys 4 = .ok (.iload_n 2, 1) := by decide +kernel
theorem dX1_keys_5 : decode cX1_keys 5 = .ok (.bipush 16, 2) := by decide +kernel
theorem dX1_keys_7 : decode cX1_keys 7 = .ok (.if_icmp .ge 21, 3) := by decide +kernel
theorem dX1_keys_10 : decode cX1_keys 10 = .ok (.aload_n 0, 1) := by decide +kernel
theorem dX1_keys_11 : decode cX1_keys 11 = .ok (.getfield 7, 3) := by decide +kernel
theorem dX1_keys_14 : decode cX1_keys 14 = .ok (.iload_n 2, 1) := by decide +kernel
theorem dX1_keys_15 : decode cX1_keys 15 = .ok (.baload, 1) := by decide +kernel
theorem dX1_keys_16 : decode cX1_keys 16 = .ok (.ifCond .eq 6, 3) := by decide +kernel
theorem dX1_keys_19 : decode cX1_keys 19 = .ok (.iinc 1 1, 3) := by decide +kernel
theorem dX1_keys_22 : decode cX1_keys 22 = .ok (.iinc 2 1, 3) := by decide +kernel
theorem dX1_keys_25 : decode cX1_keys 25 = .ok (.goto (-21), 3) := by decide +kernel
theorem dX1_keys_28 : decode cX1_keys 28 = .ok (.iload_n 1, 1) := by decide +kernel
theorem dX1_keys_29 : decode cX1_keys 29 = .ok (.ireturn, 1) := by decide +kernel
end
section
set_option maxRecDepth 100000
theorem dL_law_0 : decode cL_law 0 = .ok (.new 7, 3) := by decide +kernel
theorem dL_law_3 : decode cL_law 3 = .ok (.dup, 1) := by decide +kernel
theorem dL_law_4 : decode cL_law 4 = .ok (.invokespecial 9, 3) := by decide +kernel
theorem dL_law_7 : decode cL_law 7 = .ok (.astore_n 1, 1) := by decide +kernel
theorem dL_law_8 : decode cL_law 8 = .ok (.new 10, 3) := by decide +kernel
theorem dL_law_11 : decode cL_law 11 = .ok (.dup, 1) := by decide +kernel
theorem dL_law_12 : decode cL_law 12 = .ok (.invokespecial 12, 3) := by decide +kernel
theorem dL_law_15 : decode cL_law 15 = .ok (.astore_n 2, 1) := by decide +kernel
theorem dL_law_16 : decode cL_law 16 = .ok (.iconst 0, 1) := by decide +kernel
theorem dL_law_17 : decode cL_law 17 = .ok (.istore_n 3, 1) := by decide +kernel
theorem dL_law_18 : decode cL_law 18 = .ok (.iload_n 3, 1) := by decide +kernel
theorem dL_law_19 : decode cL_law 19 = .ok (.aload_n 0, 1) := by decide +kernel
theorem dL_law_20 : decode cL_law 20 = .ok (.arraylength, 1) := by decide +kernel
theorem dL_law_21 : decode cL_law 21 = .ok (.iconst 4, 1) := by decide +kernel
theorem dL_law_22 : decode cL_law 22 = .ok (.isub, 1) := by decide +kernel
theorem dL_law_23 : decode cL_law 23 = .ok (.if_icmp .gt 378, 3) := by decide +kernel
theorem dL_law_26 : decode cL_law 26 = .ok (.aload_n 0, 1) := by decide +kernel
theorem dL_law_27 : decode cL_law 27 = .ok (.iload_n 3, 1) := by decide +kernel
theorem dL_law_28 : decode cL_law 28 = .ok (.iaload, 1) := by decide +kernel
theorem dL_law_29 : decode cL_law 29 = .ok (.bipush 15, 2) := by decide +kernel
theorem dL_law_31 : decode cL_law 31 = .ok (.iand, 1) := by decide +kernel
theorem dL_law_32 : decode cL_law 32 = .ok (.tableswitch 363 0 10 #[60, 103, 146, 179, 202, 225, 248, 271, 294, 327, 350], 60) := by decide +kernel
theorem dL_law_92 : decode cL_law 92 = .ok (.aload_n 1, 1) := by decide +kernel
theorem dL_law_93 : decode cL_law 93 = .ok (.aload_n 0, 1) := by decide +kernel
theorem dL_law_94 : decode cL_law 94 = .ok (.iload_n 3, 1) := by decide +kernel
theorem dL_law_95 : decode cL_law 95 = .ok (.iconst 1, 1) := by decide +kernel
theorem dL_law_96 : decode cL_law 96 = .ok (.iadd, 1) := by decide +kernel
theorem dL_law_97 : decode cL_law 97 = .ok (.iaload, 1) := by decide +kernel
theorem dL_law_98 : decode cL_law 98 = .ok (.aload_n 0, 1) := by decide +kernel
theorem dL_law_99 : decode cL_law 99 = .ok (.iload_n 3, 1) := by decide +kernel
theorem dL_law_100 : decode cL_law 100 = .ok (.iconst 2, 1) := by decide +kernel
theorem dL_law_101 : decode cL_law 101 = .ok (.iadd, 1) := by decide +kernel
theorem dL_law_102 : decode cL_law 102 = .ok (.iaload, 1) := by decide +kernel
theorem dL_law_103 : decode cL_law 103 = .ok (.aload_n 0, 1) := by decide +kernel
theorem dL_law_104 : decode cL_law 104 = .ok (.iload_n 3, 1) := by decide +kernel
theorem dL_law_105 : decode cL_law 105 = .ok (.iconst 3, 1) := by decide +kernel
theorem dL_law_106 : decode cL_law 106 = .ok (.iadd, 1) := by decide +kernel
theorem dL_law_107 : decode cL_law 107 = .ok (.iaload, 1) := by decide +kernel
theorem dL_law_108 : decode cL_law 108 = .ok (.invokevirtual 13, 3) := by decide +kernel
theorem dL_law_111 : decode cL_law 111 = .ok (.aload_n 2, 1) := by decide +kernel
theorem dL_law_112 : decode cL_law 112 = .ok (.aload_n 0, 1) := by decide +kernel
theorem dL_law_113 : decode cL_law 113 = .ok (.iload_n 3, 1) := by decide +kernel
theorem dL_law_114 : decode cL_law 114 = .ok (.iconst 1, 1) := by decide +kernel
theorem dL_law_115 : decode cL_law 115 = .ok (.iadd, 1) := by decide +kernel
theorem dL_law_116 : decode cL_law 116 = .ok (.iaload, 1) := by decide +kernel
theorem dL_law_117 : decode cL_law 117 = .ok (.aload_n 0, 1) := by decide +kernel
theorem dL_law_118 : decode cL_law 118 = .ok (.iload_n 3, 1) := by decide +kernel
theorem dL_law_119 : decode cL_law 119 = .ok (.iconst 2, 1) := by decide +kernel
theorem dL_law_120 : decode cL_law 120 = .ok (.iadd, 1) := by decide +kernel
theorem dL_law_121 : decode cL_law 121 = .ok (.iaload, 1) := by decide +kernel
theorem dL_law_122 : decode cL_law 122 = .ok (.aload_n 0, 1) := by decide +kernel
theorem dL_law_123 : decode cL_law 123 = .ok (.iload_n 3, 1) := by decide +kernel
theorem dL_law_124 : decode cL_law 124 = .ok (.iconst 3, 1) := by decide +kernel
theorem dL_law_125 : decode cL_law 125 = .ok (.iadd, 1) := by decide +kernel
theorem dL_law_126 : decode cL_law 126 = .ok (.iaload, 1) := by decide +kernel
theorem dL_law_127 : decode cL_law 127 = .ok (.invokevirtual 17, 3) := by decide +kernel
theorem dL_law_130 : decode cL_law 130 = .ok (.if_icmp .eq 265, 3) := by decide +kernel
theorem dL_law_133 : decode cL_law 133 = .ok (.iconst 0, 1) := by decide +kernel
theorem dL_law_134 : decode cL_law 134 = .ok (.ireturn, 1) := by decide +kernel
theorem dL_law_135 : decode cL_law 135 = .ok (.aload_n 1, 1) := by decide +kernel
theorem dL_law_136 : decode cL_law 136 = .ok (.aload_n 0, 1) := by decide +kernel
theorem dL_law_137 : decode cL_law 137 = .ok (.iload_n 3, 1) := by decide +kernel
theorem dL_law_138 : decode cL_law 138 = .ok (.iconst 1, 1) := by decide +kernel
theorem dL_law_139 : decode cL_law 139 = .ok (.iadd, 1) := by decide +kernel
theorem dL_law_140 : decode cL_law 140 = .ok (.iaload, 1) := by decide +kernel
theorem dL_law_141 : decode cL_law 141 = .ok (.aload_n 0, 1) := by decide +kernel
theorem dL_law_142 : decode cL_law 142 = .ok (.iload_n 3, 1) := by decide +kernel
theorem dL_law_143 : decode cL_law 143 = .ok (.iconst 2, 1) := by decide +kernel
theorem dL_law_144 : decode cL_law 144 = .ok (.iadd, 1) := by decide +kernel
theorem dL_law_145 : decode cL_law 145 = .ok (.iaload, 1) := by decide +kernel
theorem dL_law_146 : decode cL_law 146 = .ok (.aload_n 0, 1) := by decide +kernel
theorem dL_law_147 : decode cL_law 147 = .ok (.iload_n 3, 1) := by decide +kernel
theorem dL_law_148 : decode cL_law 148 = .ok (.iconst 3, 1) := by decide +kernel
theorem dL_law_149 : decode cL_law 149 = .ok (.iadd, 1) := by decide +kernel
theorem dL_law_150 : decode cL_law 150 = .ok (.iaload, 1) := by decide +kernel
theorem dL_law_151 : decode cL_law 151 = .ok (.invokevirtual 18, 3) := by decide +kernel
theorem dL_law_154 : decode cL_law 154 = .ok (.aload_n 2, 1) := by decide +kernel
theorem dL_law_155 : decode cL_law 155 = .ok (.aload_n 0, 1) := by decide +kernel
theorem dL_law_156 : decode cL_law 156 = .ok (.iload_n 3, 1) := by decide +kernel
theorem dL_law_157 : decode cL_law 157 = .ok (.iconst 1, 1) := by decide +kernel
theorem dL_law_158 : decode cL_law 158 = .ok (.iadd, 1) := by decide +kernel
theorem dL_law_159 : decode cL_law 159 = .ok (.iaload, 1) := by decide +kernel
theorem dL_law_160 : decode cL_law 160 = .ok (.aload_n 0, 1) := by decide +kernel
theorem dL_law_161 : decode cL_law 161 = .ok (.iload_n 3, 1) := by decide +kernel
theorem dL_law_162 : decode cL_law 162 = .ok (.iconst 2, 1) := by decide +kernel
theorem dL_law_163 : decode cL_law 163 = .ok (.iadd, 1) := by decide +kernel
theorem dL_law_164 : decode cL_law 164 = .ok (.iaload, 1) := by decide +kernel
end
section
set_option maxRecDepth 100000
theorem dL_law_165 : decode cL_law 165 = .ok (.aload_n 0, 1) := by decide +kernel
theorem dL_law_166 : decode cL_law 166 = .ok (.iload_n 3, 1) := by decide +kernel
theorem dL_law_167 : decode cL_law 167 = .ok (.iconst 3, 1) := by decide +kernel
theorem dL_law_168 : decode cL_law 168 = .ok (.iadd, 1) := by decide +kernel
theorem dL_law_169 : decode cL_law 169 = .ok (.iaload, 1) := by decide +kernel
theorem dL_law_170 : decode cL_law 170 = .ok (.invokevirtual 21, 3) := by decide +kernel
theorem dL_law_173 : decode cL_law 173 = .ok (.if_icmp .eq 222, 3) := by decide +kernel
theorem dL_law_176 : decode cL_law 176 = .ok (.iconst 0, 1) := by decide +kernel
theorem dL_law_177 : decode cL_law 177 = .ok (.ireturn, 1) := by decide +kernel
theorem dL_law_178 : decode cL_law 178 = .ok (.aload_n 1, 1) := by decide +kernel
theorem dL_law_179 : decode cL_law 179 = .ok (.aload_n 0, 1) := by decide +kernel
theorem dL_law_180 : decode cL_law 180 = .ok (.iload_n 3, 1) := by decide +kernel
theorem dL_law_181 : decode cL_law 181 = .ok (.iconst 1, 1) := by decide +kernel
theorem dL_law_182 : decode cL_law 182 = .ok (.iadd, 1) := by decide +kernel
theorem dL_law_183 : decode cL_law 183 = .ok (.iaload, 1) := by decide +kernel
theorem dL_law_184 : decode cL_law 184 = .ok (.aload_n 0, 1) := by decide +kernel
theorem dL_law_185 : decode cL_law 185 = .ok (.iload_n 3, 1) := by decide +kernel
theorem dL_law_186 : decode cL_law 186 = .ok (.iconst 2, 1) := by decide +kernel
theorem dL_law_187 : decode cL_law 187 = .ok (.iadd, 1) := by decide +kernel
theorem dL_law_188 : decode cL_law 188 = .ok (.iaload, 1) := by decide +kernel
theorem dL_law_189 : decode cL_law 189 = .ok (.invokevirtual 22, 3) := by decide +kernel
theorem dL_law_192 : decode cL_law 192 = .ok (.aload_n 2, 1) := by decide +kernel
theorem dL_law_193 : decode cL_law 193 = .ok (.aload_n 0, 1) := by decide +kernel
theorem dL_law_194 : decode cL_law 194 = .ok (.iload_n 3, 1) := by decide +kernel
theorem dL_law_195 : decode cL_law 195 = .ok (.iconst 1, 1) := by decide +kernel
theorem dL_law_196 : decode cL_law 196 = .ok (.iadd, 1) := by decide +kernel
theorem dL_law_197 : decode cL_law 197 = .ok (.iaload, 1) := by decide +kernel
theorem dL_law_198 : decode cL_law 198 = .ok (.aload_n 0, 1) := by decide +kernel
theorem dL_law_199 : decode cL_law 199 = .ok (.iload_n 3, 1) := by decide +kernel
theorem dL_law_200 : decode cL_law 200 = .ok (.iconst 2, 1) := by decide +kernel
theorem dL_law_201 : decode cL_law 201 = .ok (.iadd, 1) := by decide +kernel
theorem dL_law_202 : decode cL_law 202 = .ok (.iaload, 1) := by decide +kernel
theorem dL_law_203 : decode cL_law 203 = .ok (.invokevirtual 26, 3) := by decide +kernel
theorem dL_law_206 : decode cL_law 206 = .ok (.if_icmp .eq 189, 3) := by decide +kernel
theorem dL_law_209 : decode cL_law 209 = .ok (.iconst 0, 1) := by decide +kernel
theorem dL_law_210 : decode cL_law 210 = .ok (.ireturn, 1) := by decide +kernel
theorem dL_law_211 : decode cL_law 211 = .ok (.aload_n 1, 1) := by decide +kernel
theorem dL_law_212 : decode cL_law 212 = .ok (.aload_n 0, 1) := by decide +kernel
theorem dL_law_213 : decode cL_law 213 = .ok (.iload_n 3, 1) := by decide +kernel
theorem dL_law_214 : decode cL_law 214 = .ok (.iconst 1, 1) := by decide +kernel
theorem dL_law_215 : decode cL_law 215 = .ok (.iadd, 1) := by decide +kernel
theorem dL_law_216 : decode cL_law 216 = .ok (.iaload, 1) := by decide +kernel
theorem dL_law_217 : decode cL_law 217 = .ok (.invokevirtual 27, 3) := by decide +kernel
theorem dL_law_220 : decode cL_law 220 = .ok (.aload_n 2, 1) := by decide +kernel
theorem dL_law_221 : decode cL_law 221 = .ok (.aload_n 0, 1) := by decide +kernel
theorem dL_law_222 : decode cL_law 222 = .ok (.iload_n 3, 1) := by decide +kernel
theorem dL_law_223 : decode cL_law 223 = .ok (.iconst 1, 1) := by decide +kernel
theorem dL_law_224 : decode cL_law 224 = .ok (.iadd, 1) := by decide +kernel
theorem dL_law_225 : decode cL_law 225 = .ok (.iaload, 1) := by decide +kernel
theorem dL_law_226 : decode cL_law 226 = .ok (.invokevirtual 31, 3) := by decide +kernel
theorem dL_law_229 : decode cL_law 229 = .ok (.if_icmp .eq 166, 3) := by decide +kernel
theorem dL_law_232 : decode cL_law 232 = .ok (.iconst 0, 1) := by decide +kernel
theorem dL_law_233 : decode cL_law 233 = .ok (.ireturn, 1) := by decide +kernel
theorem dL_law_234 : decode cL_law 234 = .ok (.aload_n 1, 1) := by decide +kernel
theorem dL_law_235 : decode cL_law 235 = .ok (.aload_n 0, 1) := by decide +kernel
theorem dL_law_236 : decode cL_law 236 = .ok (.iload_n 3, 1) := by decide +kernel
theorem dL_law_237 : decode cL_law 237 = .ok (.iconst 1, 1) := by decide +kernel
theorem dL_law_238 : decode cL_law 238 = .ok (.iadd, 1) := by decide +kernel
theorem dL_law_239 : decode cL_law 239 = .ok (.iaload, 1) := by decide +kernel
theorem dL_law_240 : decode cL_law 240 = .ok (.invokevirtual 32, 3) := by decide +kernel
theorem dL_law_243 : decode cL_law 243 = .ok (.aload_n 2, 1) := by decide +kernel
theorem dL_law_244 : decode cL_law 244 = .ok (.aload_n 0, 1) := by decide +kernel
theorem dL_law_245 : decode cL_law 245 = .ok (.iload_n 3, 1) := by decide +kernel
theorem dL_law_246 : decode cL_law 246 = .ok (.iconst 1, 1) := by decide +kernel
theorem dL_law_247 : decode cL_law 247 = .ok (.iadd, 1) := by decide +kernel
theorem dL_law_248 : decode cL_law 248 = .ok (.iaload, 1) := by decide +kernel
theorem dL_law_249 : decode cL_law 249 = .ok (.invokevirtual 35, 3) := by decide +kernel
theorem dL_law_252 : decode cL_law 252 = .ok (.if_icmp .eq 143, 3) := by decide +kernel
theorem dL_law_255 : decode cL_law 255 = .ok (.iconst 0, 1) := by decide +kernel
theorem dL_law_256 : decode cL_law 256 = .ok (.ireturn, 1) := by decide +kernel
theorem dL_law_257 : decode cL_law 257 = .ok (.aload_n 1, 1) := by decide +kernel
theorem dL_law_258 : decode cL_law 258 = .ok (.aload_n 0, 1) := by decide +kernel
theorem dL_law_259 : decode cL_law 259 = .ok (.iload_n 3, 1) := by decide +kernel
theorem dL_law_260 : decode cL_law 260 = .ok (.iconst 1, 1) := by decide +kernel
theorem dL_law_261 : decode cL_law 261 = .ok (.iadd, 1) := by decide +kernel
theorem dL_law_262 : decode cL_law 262 = .ok (.iaload, 1) := by decide +kernel
theorem dL_law_263 : decode cL_law 263 = .ok (.invokevirtual 36, 3) := by decide +kernel
theorem dL_law_266 : decode cL_law 266 = .ok (.aload_n 2, 1) := by decide +kernel
theorem dL_law_267 : decode cL_law 267 = .ok (.aload_n 0, 1) := by decide +kernel
theorem dL_law_268 : decode cL_law 268 = .ok (.iload_n 3, 1) := by decide +kernel
theorem dL_law_269 : decode cL_law 269 = .ok (.iconst 1, 1) := by decide +kernel
theorem dL_law_270 : decode cL_law 270 = .ok (.iadd, 1) := by decide +kernel
theorem dL_law_271 : decode cL_law 271 = .ok (.iaload, 1) := by decide +kernel
theorem dL_law_272 : decode cL_law 272 = .ok (.invokevirtual 39, 3) := by decide +kernel
theorem dL_law_275 : decode cL_law 275 = .ok (.if_icmp .eq 120, 3) := by decide +kernel
theorem dL_law_278 : decode cL_law 278 = .ok (.iconst 0, 1) := by decide +kernel
theorem dL_law_279 : decode cL_law 279 = .ok (.ireturn, 1) := by decide +kernel
end
section
set_option maxRecDepth 100000
theorem dL_law_280 : decode cL_law 280 = .ok (.aload_n 1, 1) := by decide +kernel
theorem dL_law_281 : decode cL_law 281 = .ok (.aload_n 0, 1) := by decide +kernel
theorem dL_law_282 : decode cL_law 282 = .ok (.iload_n 3, 1) := by decide +kernel
theorem dL_law_283 : decode cL_law 283 = .ok (.iconst 1, 1) := by decide +kernel
theorem dL_law_284 : decode cL_law 284 = .ok (.iadd, 1) := by decide +kernel
theorem dL_law_285 : decode cL_law 285 = .ok (.iaload, 1) := by decide +kernel
theorem dL_law_286 : decode cL_law 286 = .ok (.invokevirtual 40, 3) := by decide +kernel
theorem dL_law_289 : decode cL_law 289 = .ok (.aload_n 2, 1) := by decide +kernel
theorem dL_law_290 : decode cL_law 290 = .ok (.aload_n 0, 1) := by decide +kernel
theorem dL_law_291 : decode cL_law 291 = .ok (.iload_n 3, 1) := by decide +kernel
theorem dL_law_292 : decode cL_law 292 = .ok (.iconst 1, 1) := by decide +kernel
theorem dL_law_293 : decode cL_law 293 = .ok (.iadd, 1) := by decide +kernel
theorem dL_law_294 : decode cL_law 294 = .ok (.iaload, 1) := by decide +kernel
theorem dL_law_295 : decode cL_law 295 = .ok (.invokevirtual 43, 3) := by decide +kernel
theorem dL_law_298 : decode cL_law 298 = .ok (.if_icmp .eq 97, 3) := by decide +kernel
theorem dL_law_301 : decode cL_law 301 = .ok (.iconst 0, 1) := by decide +kernel
theorem dL_law_302 : decode cL_law 302 = .ok (.ireturn, 1) := by decide +kernel
theorem dL_law_303 : decode cL_law 303 = .ok (.aload_n 1, 1) := by decide +kernel
theorem dL_law_304 : decode cL_law 304 = .ok (.aload_n 0, 1) := by decide +kernel
theorem dL_law_305 : decode cL_law 305 = .ok (.iload_n 3, 1) := by decide +kernel
theorem dL_law_306 : decode cL_law 306 = .ok (.iconst 1, 1) := by decide +kernel
theorem dL_law_307 : decode cL_law 307 = .ok (.iadd, 1) := by decide +kernel
theorem dL_law_308 : decode cL_law 308 = .ok (.iaload, 1) := by decide +kernel
theorem dL_law_309 : decode cL_law 309 = .ok (.invokevirtual 44, 3) := by decide +kernel
theorem dL_law_312 : decode cL_law 312 = .ok (.aload_n 2, 1) := by decide +kernel
theorem dL_law_313 : decode cL_law 313 = .ok (.aload_n 0, 1) := by decide +kernel
theorem dL_law_314 : decode cL_law 314 = .ok (.iload_n 3, 1) := by decide +kernel
theorem dL_law_315 : decode cL_law 315 = .ok (.iconst 1, 1) := by decide +kernel
theorem dL_law_316 : decode cL_law 316 = .ok (.iadd, 1) := by decide +kernel
theorem dL_law_317 : decode cL_law 317 = .ok (.iaload, 1) := by decide +kernel
theorem dL_law_318 : decode cL_law 318 = .ok (.invokevirtual 47, 3) := by decide +kernel
theorem dL_law_321 : decode cL_law 321 = .ok (.if_icmp .eq 74, 3) := by decide +kernel
theorem dL_law_324 : decode cL_law 324 = .ok (.iconst 0, 1) := by decide +kernel
theorem dL_law_325 : decode cL_law 325 = .ok (.ireturn, 1) := by decide +kernel
theorem dL_law_326 : decode cL_law 326 = .ok (.aload_n 1, 1) := by decide +kernel
theorem dL_law_327 : decode cL_law 327 = .ok (.aload_n 0, 1) := by decide +kernel
theorem dL_law_328 : decode cL_law 328 = .ok (.iload_n 3, 1) := by decide +kernel
theorem dL_law_329 : decode cL_law 329 = .ok (.iconst 1, 1) := by decide +kernel
theorem dL_law_330 : decode cL_law 330 = .ok (.iadd, 1) := by decide +kernel
theorem dL_law_331 : decode cL_law 331 = .ok (.iaload, 1) := by decide +kernel
theorem dL_law_332 : decode cL_law 332 = .ok (.aload_n 0, 1) := by decide +kernel
theorem dL_law_333 : decode cL_law 333 = .ok (.iload_n 3, 1) := by decide +kernel
theorem dL_law_334 : decode cL_law 334 = .ok (.iconst 2, 1) := by decide +kernel
theorem dL_law_335 : decode cL_law 335 = .ok (.iadd, 1) := by decide +kernel
theorem dL_law_336 : decode cL_law 336 = .ok (.iaload, 1) := by decide +kernel
theorem dL_law_337 : decode cL_law 337 = .ok (.invokevirtual 48, 3) := by decide +kernel
theorem dL_law_340 : decode cL_law 340 = .ok (.aload_n 2, 1) := by decide +kernel
theorem dL_law_341 : decode cL_law 341 = .ok (.aload_n 0, 1) := by decide +kernel
theorem dL_law_342 : decode cL_law 342 = .ok (.iload_n 3, 1) := by decide +kernel
theorem dL_law_343 : decode cL_law 343 = .ok (.iconst 1, 1) := by decide +kernel
theorem dL_law_344 : decode cL_law 344 = .ok (.iadd, 1) := by decide +kernel
theorem dL_law_345 : decode cL_law 345 = .ok (.iaload, 1) := by decide +kernel
theorem dL_law_346 : decode cL_law 346 = .ok (.aload_n 0, 1) := by decide +kernel
theorem dL_law_347 : decode cL_law 347 = .ok (.iload_n 3, 1) := by decide +kernel
theorem dL_law_348 : decode cL_law 348 = .ok (.iconst 2, 1) := by decide +kernel
theorem dL_law_349 : decode cL_law 349 = .ok (.iadd, 1) := by decide +kernel
theorem dL_law_350 : decode cL_law 350 = .ok (.iaload, 1) := by decide +kernel
theorem dL_law_351 : decode cL_law 351 = .ok (.invokevirtual 51, 3) := by decide +kernel
theorem dL_law_354 : decode cL_law 354 = .ok (.if_icmp .eq 41, 3) := by decide +kernel
theorem dL_law_357 : decode cL_law 357 = .ok (.iconst 0, 1) := by decide +kernel
theorem dL_law_358 : decode cL_law 358 = .ok (.ireturn, 1) := by decide +kernel
theorem dL_law_359 : decode cL_law 359 = .ok (.aload_n 1, 1) := by decide +kernel
theorem dL_law_360 : decode cL_law 360 = .ok (.aload_n 0, 1) := by decide +kernel
theorem dL_law_361 : decode cL_law 361 = .ok (.iload_n 3, 1) := by decide +kernel
theorem dL_law_362 : decode cL_law 362 = .ok (.iconst 1, 1) := by decide +kernel
theorem dL_law_363 : decode cL_law 363 = .ok (.iadd, 1) := by decide +kernel
theorem dL_law_364 : decode cL_law 364 = .ok (.iaload, 1) := by decide +kernel
theorem dL_law_365 : decode cL_law 365 = .ok (.invokevirtual 52, 3) := by decide +kernel
theorem dL_law_368 : decode cL_law 368 = .ok (.aload_n 2, 1) := by decide +kernel
theorem dL_law_369 : decode cL_law 369 = .ok (.aload_n 0, 1) := by decide +kernel
theorem dL_law_370 : decode cL_law 370 = .ok (.iload_n 3, 1) := by decide +kernel
theorem dL_law_371 : decode cL_law 371 = .ok (.iconst 1, 1) := by decide +kernel
theorem dL_law_372 : decode cL_law 372 = .ok (.iadd, 1) := by decide +kernel
theorem dL_law_373 : decode cL_law 373 = .ok (.iaload, 1) := by decide +kernel
theorem dL_law_374 : decode cL_law 374 = .ok (.invokevirtual 55, 3) := by decide +kernel
theorem dL_law_377 : decode cL_law 377 = .ok (.if_icmp .eq 18, 3) := by decide +kernel
theorem dL_law_380 : decode cL_law 380 = .ok (.iconst 0, 1) := by decide +kernel
theorem dL_law_381 : decode cL_law 381 = .ok (.ireturn, 1) := by decide +kernel
theorem dL_law_382 : decode cL_law 382 = .ok (.aload_n 1, 1) := by decide +kernel
theorem dL_law_383 : decode cL_law 383 = .ok (.invokevirtual 56, 3) := by decide +kernel
theorem dL_law_386 : decode cL_law 386 = .ok (.aload_n 2, 1) := by decide +kernel
theorem dL_law_387 : decode cL_law 387 = .ok (.invokevirtual 60, 3) := by decide +kernel
theorem dL_law_390 : decode cL_law 390 = .ok (.if_icmp .eq 5, 3) := by decide +kernel
theorem dL_law_393 : decode cL_law 393 = .ok (.iconst 0, 1) := by decide +kernel
theorem dL_law_394 : decode cL_law 394 = .ok (.ireturn, 1) := by decide +kernel
theorem dL_law_395 : decode cL_law 395 = .ok (.iinc 3 4, 3) := by decide +kernel
theorem dL_law_398 : decode cL_law 398 = .ok (.goto (-380), 3) := by decide +kernel
theorem dL_law_401 : decode cL_law 401 = .ok (.iconst 1, 1) := by decide +kernel
theorem dL_law_402 : decode cL_law 402 = .ok (.ireturn, 1) := by decide +kernel
end
section
set_option maxRecDepth 100000
/-! worlds, bundles, forms of contracts, rows -/
abbrev vwCl : List vw_C := [(RX0, TX0, 11), (RX1, TX1, 10)]
/-- the cells of a DeriveTree -/
abbrev dt_w0 (d : ClassId) (h0 : Nat) (a : Nat → Nat) (σ : dt_S0) : va_W := [(h0, .inr (0, [.int σ.1, .ref (a 1), .ref (a 2), .ref (a 3), .ref (a 4), .ref (a 5), .int (nI σ.2.1), .ref (a 6), .ref (a 7), .ref (a 8), .ref (a 9)])), (a 1, .inl (d, 16, .inl σ.2.2.1)), (a 2, .inl (d, 16, .inl σ.2.2.2.1)), (a 3, .inl (d, 16, .inl σ.2.2.2.2.1)), (a 4, .inl (d, 16, .inl σ.2.2.2.2.2.1)), (a 5, .inl (d, 16, .inl σ.2.2.2.2.2.2.1)), (a 6, .inl (d, 16, .inl σ.2.2.2.2.2.2.2.1)), (a 7, .inl (d, 16, .inl σ.2.2.2.2.2.2.2.2.1)), (a 8, .inl (d, 16, .inl σ.2.2.2.2.2.2.2.2.2.1)), (a 9, .inl (d, 16, .inl σ.2.2.2.2.2.2.2.2.2.2))]
/-- the cells of a DeriveTreeModel -/
abbrev dt_w1 (d dz : ClassId) (h0 : Nat) (a : Nat → Nat) (τ : dt_S1) : va_W := [(h0, .inr (1, [.ref (a 1), .ref (a 2), .ref (a 3), .ref (a 4), .ref (a 5), .ref (a 6), .ref (a 7), .ref (a 8), .int τ.2.2.2.2.2.2.2.2.1, .ref (a 9)])), (a 1, .inl (dz, 16, .inl τ.1)), (a 2, .inl (d, 16, .inl τ.2.1)), (a 3, .inl (d, 16, .inl τ.2.2.1)), (a 4, .inl (d, 16, .inl τ.2.2.2.1)), (a 5, .inl (d, 16, .inl τ.2.2.2.2.1)), (a 6, .inl (d, 16, .inl τ.2.2.2.2.2.1)), (a 7, .inl (d, 16, .inl τ.2.2.2.2.2.2.1)), (a 8, .inl (d, 16, .inl τ.2.2.2.2.2.2.2.1)), (a 9, .inl (dz, 16, .inl τ.2.2.2.2.2.2.2.2.2))]
def dt_ev (p : Program) (s : State) (m : MethodId) (args : Array Value) (meth : Method) (c : Code) (cc : ByteArray) (nL : Nat) (own : String) (rty : Option FieldType) (D : va_G) (tys : List (ClassId × FieldType)) : Prop :=
  p.tables.exec = Jvm.exec ∧ c.code = cc ∧ c.maxLocals = nL ∧ s.vm.findClass own = some m.cls ∧ (∀ w ∈ lw_all, w.before args s = true) ∧ va_K D vwCl tys s ∧ meth.locks = false ∧ meth.sig.returnType = rty
def dt_hq (D : va_G) (A : Nat → Prop) (s : State) (ws : va_W) (H : Heap) (locs : List Loc) : Prop := va_P D vwCl ws H ∧ va_D A ws ∧ va_S A s.heap H locs ∧ ∀ q : Nat, s.heap.size ≤ q → A q
def dt_QI (tys : List (ClassId × FieldType)) (w' : va_W) (r : Int32) (D : va_G) (A : Nat → Prop) : Array Value → State → Outcome → State → Prop := va_Qi (fun (r' : Int32) (_ : Unit) => r' = r) (fun _ t => va_P D vwCl w' t.heap ∧ va_K D vwCl tys t ∧ va_D A w') A
def dt_QV (tys : List (ClassId × FieldType)) (w' : va_W) (D : va_G) (A : Nat → Prop) : Array Value → State → Outcome → State → Prop := va_Qv (fun (_ : Unit) => True) (fun _ t => va_P D vwCl w' t.heap ∧ va_K D vwCl tys t ∧ va_D A w') A
def dt_Pc (tys : List (ClassId × FieldType)) (av : List Value) (w : va_W) (D : va_G) (z : Nat) : Array Value → State → Prop := va_Pc av (fun U => U.heap.size = z ∧ va_P D vwCl w U.heap ∧ va_K D vwCl tys U ∧ va_D (fun _ => True) w)
/-- a contract: called with av in the world w, the method answers r and leaves the world w' -/
def dt_Ci (l : Launch) (y : MethodName) (cc : ByteArray) (nL : Nat) (rty : Option FieldType) (rm : Room) (tys : List (ClassId × FieldType)) (av : List Value) (w w' : va_W) (r : Int32) (D : va_G) (z : Nat) : Prop := Met l y (ws_ y cc nL rty) rm (dt_Pc tys av w D z) (dt_QI tys w' r D (va_A w z)) 0 0 (va_A w z)
def dt_Cv (l : Launch) (y : MethodName) (cc : ByteArray) (nL : Nat) (rm : Room) (tys : List (ClassId × FieldType)) (av : List Value) (w w' : va_W) (D : va_G) (z : Nat) : Prop := Met l y (ws_ y cc nL none) rm (dt_Pc tys av w D z) (dt_QV tys w' D (va_A w z)) 0 0 (va_A w z)
abbrev dt_rm (f n : Nat) : Room := { frames := f, cells := 0, slots := 0, locals := n }
section DTA
variable {l : Launch} {y : MethodName} {cc : ByteArray} {nL : Nat} {rm : Room} {tys : List (ClassId × FieldType)} {av : List Value} {w w' : va_W} {r : Int32} {D : va_G} {z : Nat} {own : String}
theorem dt_Ci.ofW {rty : Option FieldType} (hy : plainName y.cls = true) (ho : y.cls = own) (hlen : (lg_sl av).length ≤ nL)
    (body : ∀ (p : Program) (e : Env) (s : State) (m : MethodId) (below : List Frame) (meth : Method) (c : Code) (A : Nat → Prop) (ls : Array Slot), dt_ev p s m av.toArray meth c cc nL own rty D tys → dt_hq D A s w s.heap [] → lv_has ls nL (lv_args 0 av) → W p l e rm s m av.toArray below meth c s.heap [] 0 0 (MQ below (dt_QI tys w' r D A) av.toArray s 0 0 A) (F0 m 0 ls [])) : dt_Ci l y cc nL rty rm tys av w w' r D z := by
  unfold dt_Ci
  refine Met.ofW (cc := cc) (maxL := nL) (ret := rty) hy rfl ?_
  intro p e s m args below meth c s₁ B hml hv
  obtain ⟨rfl, hsz, hP, hK, hD0⟩ := hv
  have hts := atoms_spec (ws := ws_ y cc nL rty) B.pre
  have hts : ∀ w ∈ lw_all, w.before _ s = true := fun w h => hts w (List.mem_cons_of_mem _ h)
  have hown : s.vm.findClass y.cls = some m.cls := findClass_of_methodNamed B.named
  subst hsz
  have hl := lv_entry av (n := nL) hlen
  rw [lg_entry_eq]
  exact body p e s m below meth c _ _ ⟨B.exec, B.bytes, hml, by rw [← ho]; exact hown, hts, hK, B.notSynchronized, B.returns⟩ ⟨hP, hD0.self, va_S.rf, fun q h => Or.inr h⟩ hl
theorem dt_Cv.ofW (hy : plainName y.cls = true) (ho : y.cls = own) (hlen : (lg_sl av).length ≤ nL)
    (body : ∀ (p : Program) (e : Env) (s : State) (m : MethodId) (below : List Frame) (meth : Method) (c : Code) (A : Nat → Prop) (ls : Array Slot), dt_ev p s m av.toArray meth c cc nL own none D tys → dt_hq D A s w s.heap [] → lv_has ls nL (lv_args 0 av) → W p l e rm s m av.toArray below meth c s.heap [] 0 0 (MQ below (dt_QV tys w' D A) av.toArray s 0 0 A) (F0 m 0 ls [])) : dt_Cv l y cc nL rm tys av w w' D z := by
  unfold dt_Cv
  refine Met.ofW (cc := cc) (maxL := nL) (ret := none) hy rfl ?_
  intro p e s m args below meth c s₁ B hml hv
  obtain ⟨rfl, hsz, hP, hK, hD0⟩ := hv
  have hts := atoms_spec (ws := ws_ y cc nL none) B.pre
  have hts : ∀ w ∈ lw_all, w.before _ s = true := fun w h => hts w (List.mem_cons_of_mem _ h)
  have hown : s.vm.findClass y.cls = some m.cls := findClass_of_methodNamed B.named
  subst hsz
  have hl := lv_entry av (n := nL) hlen
  rw [lg_entry_eq]
  exact body p e s m below meth c _ _ ⟨B.exec, B.bytes, hml, by rw [← ho]; exact hown, hts, hK, B.notSynchronized, B.returns⟩ ⟨hP, hD0.self, va_S.rf, fun q h => Or.inr h⟩ hl
end DTA
theorem dt_nar_b (b : Bool) : vp_nar .boolean (dt_b b) = dt_b b := by cases b <;> rfl
theorem dt_narrow_b (b : Bool) : narrow .boolean (.int (dt_b b)) = .int (dt_b b) := by cases b <;> rfl
theorem dt_inc (k : Nat) : nI k + Int32.ofInt 1 = nI (k + 1) := nI_1 k
def dt_dm : Nat → Int32
  | 0 => -1
  | d + 1 => nI d
theorem dt_dec (k : Nat) : nI k + Int32.ofInt (-1) = dt_dm k := by
  cases k with
  | zero => decide
  | succ k => exact pk_m1 k
theorem dt_pred (k : Nat) : nI (k + 1) + Int32.ofInt (-1) = nI k := pk_m1 k
theorem dt_one (c : Int32) : c + Int32.ofInt 1 = c + 1 := rfl
section DTR
variable {p : Program} {l : Launch} {e : Env} {R : Room} {s : State} {m : MethodId} {args : Array Value} {below : List Frame} {meth : Method} {c : Code} {H : Heap} {locs : List Loc} {cells slots : Nat} {Q : State → Prop}
variable {cc : ByteArray} {nL : Nat} {own : String} {rty : Option FieldType} {D : va_G} {tys : List (ClassId × FieldType)} {A : Nat → Prop} {ws w w' : va_W} {pw : Nat} {ls : Array Slot} {rest st0 : List Value} {r : Int32} {d dz : ClassId} {h0 : Nat} {a : Nat → Nat}
theorem dt_tp {x y : Int32} (h : x = y) (k : W p l e R s m args below meth c H locs cells slots Q (F0 m pw ls (.int y :: rest))) : W p l e R s m args below meth c H locs cells slots Q (F0 m pw ls (.int x :: rest)) := by
  rw [h]; exact k
theorem dt_ri (E : dt_ev p s m args meth c cc nL own (some .int) D tys) (h : dt_hq D A s w' H locs) (hdg : decode cc pw = .ok (.ireturn, 1)) : W p l e R s m args below meth c H locs 0 0 (MQ below (dt_QI tys w' r D A) args s 0 0 A) (F0 m pw ls [.int r]) :=
  W.zret (ty := .int) E.1 E.2.1 E.2.2.2.2.2.2.2 rfl (fun t ht hW => ⟨⟨r, (), rfl, rfl, by rw [ht]; exact h.1, va_K.moved hW.alike E.2.2.2.2.2.1, h.2.1⟩, h.2.2.1.F ht⟩) h.2.2.1.2.2 hdg (hlocks := E.2.2.2.2.2.2.1)
theorem dt_rz (E : dt_ev p s m args meth c cc nL own (some .boolean) D tys) (h : dt_hq D A s w' H locs) {b : Bool} (hdg : decode cc pw = .ok (.ireturn, 1)) : W p l e R s m args below meth c H locs 0 0 (MQ below (dt_QI tys w' (dt_b b) D A) args s 0 0 A) (F0 m pw ls [.int (dt_b b)]) :=
  W.zret (ty := .boolean) E.1 E.2.1 E.2.2.2.2.2.2.2 (dt_narrow_b b) (fun t ht hW => ⟨⟨dt_b b, (), rfl, rfl, by rw [ht]; exact h.1, va_K.moved hW.alike E.2.2.2.2.2.1, h.2.1⟩, h.2.2.1.F ht⟩) h.2.2.1.2.2 hdg (hlocks := E.2.2.2.2.2.2.1)
theorem dt_rv (E : dt_ev p s m args meth c cc nL own none D tys) (h : dt_hq D A s w' H locs) (hdg : decode cc pw = .ok (.return_, 1)) : W p l e R s m args below meth c H locs 0 0 (MQ below (dt_QV tys w' D A) args s 0 0 A) (F0 m pw ls []) :=
  W.vret E.1 E.2.1 E.2.2.2.2.2.2.2 (fun t ht hW => ⟨⟨(), rfl, trivial, by rw [ht]; exact h.1, va_K.moved hW.alike E.2.2.2.2.2.1, h.2.1⟩, h.2.2.1.F ht⟩) h.2.2.1.2.2 hdg (hlocks := E.2.2.2.2.2.2.1)
theorem dt_ld (E : dt_ev p s m args meth c cc nL own rty D tys) (h : dt_hq D A s ws H locs) (q0 t0 : Nat) {cA : ClassId} {f : dt_F} {a0 : Nat} (ha : ws[q0]? = some (a0, .inl (cA, 16, .inl f))) (ht : tys[t0]? = some (cA, .int)) {j : Nat} (hj : j < 16) (hdg : decode cc pw = .ok (.iaload, 1)) (kk : W p l e R s m args below meth c H locs cells slots Q (F0 m (pw + 1) ls (.int (f j) :: rest))) : W p l e R s m args below meth c H locs cells slots Q (F0 m pw ls (.int (nI j) :: .ref a0 :: rest)) := by
  refine va_iald E.1 E.2.1 E.2.2.2.2.2.1 h.1 q0 t0 ha ht (vp_in_nI hj (by decide)) hdg ?_
  rw [nI_clamp (by omega)]
  exact kk
theorem dt_ldz (E : dt_ev p s m args meth c cc nL own rty D tys) (h : dt_hq D A s ws H locs) (q0 t0 : Nat) {cA : ClassId} {f : dt_F} {a0 : Nat} (ha : ws[q0]? = some (a0, .inl (cA, 16, .inl f))) (ht : tys[t0]? = some (cA, .boolean)) {j : Nat} (hj : j < 16) (hdg : decode cc pw = .ok (.baload, 1)) (kk : W p l e R s m args below meth c H locs cells slots Q (F0 m (pw + 1) ls (.int (f j) :: rest))) : W p l e R s m args below meth c H locs cells slots Q (F0 m pw ls (.int (nI j) :: .ref a0 :: rest)) := by
  refine va_zald E.1 E.2.1 E.2.2.2.2.2.1 h.1 q0 t0 ha ht (vp_in_nI hj (by decide)) hdg ?_
  rw [nI_clamp (by omega)]
  exact kk
theorem dt_st (E : dt_ev p s m args meth c cc nL own rty D tys) (h : dt_hq D A s ws H locs) (q0 t0 : Nat) {cA : ClassId} {f : dt_F} {a0 : Nat} (ha : ws[q0]? = some (a0, .inl (cA, 16, .inl f))) (ht : tys[t0]? = some (cA, .int)) {j : Nat} {x : Int32} (hj : j < 16) (hdg : decode cc pw = .ok (.iastore, 1)) (kk : ∀ (H1 : Heap) (locs1 : List Loc), dt_hq D A s (ws.set q0 (a0, .inl (cA, 16, .inl (upd f j x)))) H1 locs1 → W p l e R s m args below meth c H1 locs1 cells slots Q (F0 m (pw + 1) ls rest)) : W p l e R s m args below meth c H locs cells slots Q (F0 m pw ls (.int x :: .int (nI j) :: .ref a0 :: rest)) := by
  refine va_iast E.1 E.2.1 E.2.2.2.2.2.1 h.1 h.2.1 h.2.2.1 q0 t0 ha ht (vp_in_nI hj (by decide)) hdg ?_
  rw [nI_clamp (by omega)]
  exact fun H1 locs1 h1 h2 h3 => kk H1 locs1 ⟨h1, h2, h3, h.2.2.2⟩
theorem dt_stz (E : dt_ev p s m args meth c cc nL own rty D tys) (h : dt_hq D A s ws H locs) (q0 t0 : Nat) {cA : ClassId} {f : dt_F} {a0 : Nat} (ha : ws[q0]? = some (a0, .inl (cA, 16, .inl f))) (ht : tys[t0]? = some (cA, .boolean)) {j : Nat} {x : Int32} (hx : vp_nar .boolean x = x) (hj : j < 16) (hdg : decode cc pw = .ok (.bastore, 1)) (kk : ∀ (H1 : Heap) (locs1 : List Loc), dt_hq D A s (ws.set q0 (a0, .inl (cA, 16, .inl (upd f j x)))) H1 locs1 → W p l e R s m args below meth c H1 locs1 cells slots Q (F0 m (pw + 1) ls rest)) : W p l e R s m args below meth c H locs cells slots Q (F0 m pw ls (.int x :: .int (nI j) :: .ref a0 :: rest)) := by
  refine va_zast E.1 E.2.1 E.2.2.2.2.2.1 h.1 h.2.1 h.2.2.1 q0 t0 ha ht (vp_in_nI hj (by decide)) hdg ?_
  rw [nI_clamp (by omega), hx]
  exact fun H1 locs1 h1 h2 h3 => kk H1 locs1 ⟨h1, h2, h3, h.2.2.2⟩
theorem dt_get0 (E : dt_ev p s m args meth c cc nL RX0 rty D tys) (h : dt_hq D A s ws H locs) {a0 : Nat} {fs : List Value} (he : ws[0]? = some (a0, .inr (0, fs))) (k : Nat) (hk : k < 11) {idx : Nat} (hl : Cond.fieldLink RX0 idx (TX0 k).1 (TX0 k).2.1 (TX0 k).2.2.1 ∈ lw_all) {v : Value} (hv : fs[k]? = some v) (hdg : decode cc pw = .ok (.getfield idx, 3)) (kk : W p l e R s m args below meth c H locs cells slots Q (F0 m (pw + 3) ls (v :: rest))) : W p l e R s m args below meth c H locs cells slots Q (F0 m pw ls (.ref a0 :: rest)) :=
  va_get (D := D) (own := RX0) (C := RX0) (T := TX0) (N := 11) (ci := 0) E.1 E.2.1 E.2.2.2.2.1 in_X0 E.2.2.2.1 E.2.2.2.2.2.1 h.1 0 he rfl k hk (E.2.2.2.2.1 _ hl) (fun _ h9 => h9) hv hdg kk
theorem dt_get1 (E : dt_ev p s m args meth c cc nL RX1 rty D tys) (h : dt_hq D A s ws H locs) {a0 : Nat} {fs : List Value} (he : ws[0]? = some (a0, .inr (1, fs))) (k : Nat) (hk : k < 10) {idx : Nat} (hl : Cond.fieldLink RX1 idx (TX1 k).1 (TX1 k).2.1 (TX1 k).2.2.1 ∈ lw_all) {v : Value} (hv : fs[k]? = some v) (hdg : decode cc pw = .ok (.getfield idx, 3)) (kk : W p l e R s m args below meth c H locs cells slots Q (F0 m (pw + 3) ls (v :: rest))) : W p l e R s m args below meth c H locs cells slots Q (F0 m pw ls (.ref a0 :: rest)) :=
  va_get (D := D) (own := RX1) (C := RX1) (T := TX1) (N := 10) (ci := 1) E.1 E.2.1 E.2.2.2.2.1 in_X1 E.2.2.2.1 E.2.2.2.2.2.1 h.1 0 he rfl k hk (E.2.2.2.2.1 _ hl) (fun _ h9 => h9) hv hdg kk
theorem dt_put0 (E : dt_ev p s m args meth c cc nL RX0 rty D tys) (h : dt_hq D A s ws H locs) {a0 : Nat} {fs : List Value} (he : ws[0]? = some (a0, .inr (0, fs))) (k : Nat) (hk : k < 11) {idx : Nat} (hl : Cond.fieldLink RX0 idx (TX0 k).1 (TX0 k).2.1 (TX0 k).2.2.1 ∈ lw_all) (hfin : (TX0 k).2.2.2 = false) {x : Int32} (hd : parseFieldDescriptor (TX0 k).2.2.1 = some .int) (hlt : k < fs.length) (hdg : decode cc pw = .ok (.putfield idx, 3)) (kk : ∀ (H1 : Heap) (locs1 : List Loc), dt_hq D A s (ws.set 0 (a0, .inr (0, fs.set k (.int x)))) H1 locs1 → W p l e R s m args below meth c H1 locs1 cells slots Q (F0 m (pw + 3) ls rest)) : W p l e R s m args below meth c H locs cells slots Q (F0 m pw ls (.int x :: .ref a0 :: rest)) :=
  va_put (D := D) (own := RX0) (C := RX0) (T := TX0) (N := 11) (ci := 0) (v := .int x) (ty := .int) E.1 E.2.1 E.2.2.2.2.1 in_X0 tyX0 tyX0_ok nmX0 E.2.2.2.1 E.2.2.2.2.2.1 h.1 h.2.1 h.2.2.1 0 he rfl k hk (E.2.2.2.2.1 _ hl) (fun _ h9 => h9) hfin hd rfl rfl hlt hdg (fun H1 locs1 h1 h2 h3 => kk H1 locs1 ⟨h1, h2, h3, h.2.2.2⟩)
theorem dt_put1 (E : dt_ev p s m args meth c cc nL RX1 rty D tys) (h : dt_hq D A s ws H locs) {a0 : Nat} {fs : List Value} (he : ws[0]? = some (a0, .inr (1, fs))) (k : Nat) (hk : k < 10) {idx : Nat} (hl : Cond.fieldLink RX1 idx (TX1 k).1 (TX1 k).2.1 (TX1 k).2.2.1 ∈ lw_all) (hfin : (TX1 k).2.2.2 = false) {x : Int32} (hd : parseFieldDescriptor (TX1 k).2.2.1 = some .int) (hlt : k < fs.length) (hdg : decode cc pw = .ok (.putfield idx, 3)) (kk : ∀ (H1 : Heap) (locs1 : List Loc), dt_hq D A s (ws.set 0 (a0, .inr (1, fs.set k (.int x)))) H1 locs1 → W p l e R s m args below meth c H1 locs1 cells slots Q (F0 m (pw + 3) ls rest)) : W p l e R s m args below meth c H locs cells slots Q (F0 m pw ls (.int x :: .ref a0 :: rest)) :=
  va_put (D := D) (own := RX1) (C := RX1) (T := TX1) (N := 10) (ci := 1) (v := .int x) (ty := .int) E.1 E.2.1 E.2.2.2.2.1 in_X1 tyX1 tyX1_ok nmX1 E.2.2.2.1 E.2.2.2.2.2.1 h.1 h.2.1 h.2.2.1 0 he rfl k hk (E.2.2.2.2.1 _ hl) (fun _ h9 => h9) hfin hd rfl rfl hlt hdg (fun H1 locs1 h1 h2 h3 => kk H1 locs1 ⟨h1, h2, h3, h.2.2.2⟩)
/-- a call, of a part w of the world ws -/
theorem dt_call_i (E : dt_ev p s m args meth c cc nL own rty D tys) (h : dt_hq D A s ws H locs) {y : MethodName} {code' : ByteArray} {maxL idx ci b : Nat} {rty' : Option FieldType} {rm : Room} {tys' : List (ClassId × FieldType)} {As : List Value} {wr : va_W} {q : vw_C} {fs : List Value}
    (M : dt_Ci l y code' maxL rty' rm tys' (.ref b :: As) w w' r D H.size) (isC isR : List Nat) (hC : isC.map (fun i => ws[i]?) = w.map some) (hC2 : isC.filterMap (fun i => ws[i]?) = w) (hnC : va_nd isC = true) (hR : isR.map (fun i => ws[i]?) = wr.map some) (hn : va_nd isR = true) (hdis : ∀ i ∈ isR, i ∉ isC) (kt : List Nat) (hkt : kt.filterMap (fun i => tys[i]?) = tys')
    (hcl : vwCl[ci]? = some q) (hrecv : w[0]? = some (b, .inr (ci, fs))) (hw : GoodIn lw_all (wsV own idx q.1 y (ws_ y code' maxL rty'))) {nA : Nat} (hnA : As.length = nA) (hd : y.cls = q.1 ∧ y.cls ≠ "java/lang/invoke/MethodHandle" ∧ y.cls ≠ "java/lang/invoke/VarHandle" ∧ (parseMethodDescriptor y.desc).map (fun d => d.parameters.length) = some nA) (hRm : rm.frames + 1 ≤ R.frames ∧ 8 + (maxL + 11) + rm.locals ≤ R.locals) (hrm : rm.cells = 0 ∧ rm.slots = 0)
    (hsz : ls.size = nL) (hst : st0 = As.reverse ++ .ref b :: rest) (hroom : (rest.map fun v => v.category).sum ≤ 8) (hdg : decode cc pw = .ok (.invokevirtual idx, 3)) (hf : cells ≤ R.cells ∧ slots ≤ R.slots)
    (kk : ∀ (H1 : Heap) (locs1 : List Loc), dt_hq D A s (wr ++ w') H1 locs1 → W p l e R s m args below meth c H1 locs1 cells slots Q (F0 m (pw + 3) ls (.int r :: rest))) : W p l e R s m args below meth c H locs cells slots Q (F0 m pw ls st0) := by
  subst hst
  unfold dt_Ci at M
  have hPc := h.1.sub isC hC2
  have hDc := h.2.1.sub isC hnC hC
  have hKc := E.2.2.2.2.2.1.sub kt hkt
  have hFc := va_free h.2.1 h.2.2.1 h.2.2.2 isC hC
  refine va_calli (va_runV (As := As) (rest := rest) ⟨E.1, E.2.1, E.2.2.1, E.2.2.2.1, E.2.2.2.2.1⟩ M (cwV nA E.2.2.2.2.1 hw rfl hrm.1 hrm.2 hd hRm) ⟨fun a U g mk q => by obtain ⟨q0, q1, qP, qK, qD⟩ := q; exact ⟨q0, q1, qP, va_K.moved (u := U) (U := U.calling g mk a) (Vm.Alike.refl U.vm) qK, qD⟩, va_recv hKc hPc hcl hrecv, fun U hU hW => ⟨rfl, by rw [hU], by rw [hU]; exact hPc, va_K.moved hW.alike hKc, hDc.weaken (fun _ _ _ _ => trivial)⟩⟩ rfl hnA hsz rfl (lv_room hroom) hdg hf) h.2.2.1 (fun q _ h => hFc q h) hFc (fun r' u t H1 locs ht hvm hw1 hB hz1 hk1 hS => ?_)
  subst hw1
  obtain ⟨hP1, hK1, hD1⟩ := hB
  rw [ht] at hP1
  obtain ⟨hP, hD⟩ := va_join h.1 h.2.1 isC isR hC hR hn hdis hk1 hFc hP1 hD1
  exact kk H1 locs ⟨hP, hD, hS, h.2.2.2⟩
theorem dt_call_v (E : dt_ev p s m args meth c cc nL own rty D tys) (h : dt_hq D A s ws H locs) {y : MethodName} {code' : ByteArray} {maxL idx ci b : Nat} {rm : Room} {tys' : List (ClassId × FieldType)} {As : List Value} {wr : va_W} {q : vw_C} {fs : List Value}
    (M : dt_Cv l y code' maxL rm tys' (.ref b :: As) w w' D H.size) (isC isR : List Nat) (hC : isC.map (fun i => ws[i]?) = w.map some) (hC2 : isC.filterMap (fun i => ws[i]?) = w) (hnC : va_nd isC = true) (hR : isR.map (fun i => ws[i]?) = wr.map some) (hn : va_nd isR = true) (hdis : ∀ i ∈ isR, i ∉ isC) (kt : List Nat) (hkt : kt.filterMap (fun i => tys[i]?) = tys')
    (hcl : vwCl[ci]? = some q) (hrecv : w[0]? = some (b, .inr (ci, fs))) (hw : GoodIn lw_all (wsV own idx q.1 y (ws_ y code' maxL none))) {nA : Nat} (hnA : As.length = nA) (hd : y.cls = q.1 ∧ y.cls ≠ "java/lang/invoke/MethodHandle" ∧ y.cls ≠ "java/lang/invoke/VarHandle" ∧ (parseMethodDescriptor y.desc).map (fun d => d.parameters.length) = some nA) (hRm : rm.frames + 1 ≤ R.frames ∧ 8 + (maxL + 11) + rm.locals ≤ R.locals) (hrm : rm.cells = 0 ∧ rm.slots = 0)
    (hsz : ls.size = nL) (hst : st0 = As.reverse ++ .ref b :: rest) (hroom : (rest.map fun v => v.category).sum ≤ 8) (hdg : decode cc pw = .ok (.invokevirtual idx, 3)) (hf : cells ≤ R.cells ∧ slots ≤ R.slots)
    (kk : ∀ (H1 : Heap) (locs1 : List Loc), dt_hq D A s (wr ++ w') H1 locs1 → W p l e R s m args below meth c H1 locs1 cells slots Q (F0 m (pw + 3) ls rest)) : W p l e R s m args below meth c H locs cells slots Q (F0 m pw ls st0) := by
  subst hst
  unfold dt_Cv at M
  have hPc := h.1.sub isC hC2
  have hDc := h.2.1.sub isC hnC hC
  have hKc := E.2.2.2.2.2.1.sub kt hkt
  have hFc := va_free h.2.1 h.2.2.1 h.2.2.2 isC hC
  refine va_callv (va_runV (As := As) (rest := rest) ⟨E.1, E.2.1, E.2.2.1, E.2.2.2.1, E.2.2.2.2.1⟩ M (cwV nA E.2.2.2.2.1 hw rfl hrm.1 hrm.2 hd hRm) ⟨fun a U g mk q => by obtain ⟨q0, q1, qP, qK, qD⟩ := q; exact ⟨q0, q1, qP, va_K.moved (u := U) (U := U.calling g mk a) (Vm.Alike.refl U.vm) qK, qD⟩, va_recv hKc hPc hcl hrecv, fun U hU hW => ⟨rfl, by rw [hU], by rw [hU]; exact hPc, va_K.moved hW.alike hKc, hDc.weaken (fun _ _ _ _ => trivial)⟩⟩ rfl hnA hsz rfl (lv_room hroom) hdg hf) h.2.2.1 (fun q _ h => hFc q h) hFc (fun u t H1 locs ht hvm hw1 hB hz1 hk1 hS => ?_)
  obtain ⟨hP1, hK1, hD1⟩ := hB
  rw [ht] at hP1
  obtain ⟨hP, hD⟩ := va_join h.1 h.2.1 isC isR hC hR hn hdis hk1 hFc hP1 hD1
  exact kk H1 locs ⟨hP, hD, hS, h.2.2.2⟩
theorem dt_g0_made {made : Int32} {n : Nat} {st sz mr kt nb sl dp pc rt : dt_F} (E : dt_ev p s m args meth c cc nL RX0 rty D [(d, .int)]) (h : dt_hq D A s (dt_w0 d h0 a (made, n, st, sz, mr, kt, nb, sl, dp, pc, rt)) H locs) (hdg : decode cc pw = .ok (.getfield 37, 3)) (kk : W p l e R s m args below meth c H locs cells slots Q (F0 m (pw + 3) ls (.int made :: rest))) : W p l e R s m args below meth c H locs cells slots Q (F0 m pw ls (.ref h0 :: rest)) := dt_get0 E h rfl 0 (by decide) q29 rfl hdg kk
theorem dt_p0_made {made : Int32} {n : Nat} {st sz mr kt nb sl dp pc rt : dt_F} {x : Int32} (E : dt_ev p s m args meth c cc nL RX0 rty D [(d, .int)]) (h : dt_hq D A s (dt_w0 d h0 a (made, n, st, sz, mr, kt, nb, sl, dp, pc, rt)) H locs) (hdg : decode cc pw = .ok (.putfield 37, 3)) (kk : ∀ (H1 : Heap) (locs1 : List Loc), dt_hq D A s (dt_w0 d h0 a (x, n, st, sz, mr, kt, nb, sl, dp, pc, rt)) H1 locs1 → W p l e R s m args below meth c H1 locs1 cells slots Q (F0 m (pw + 3) ls rest)) : W p l e R s m args below meth c H locs cells slots Q (F0 m pw ls (.int x :: .ref h0 :: rest)) := dt_put0 E h rfl 0 (by decide) q29 rfl (by decide +kernel) (Nat.le_of_ble_eq_true rfl) hdg kk
theorem dt_g0_st {made : Int32} {n : Nat} {st sz mr kt nb sl dp pc rt : dt_F} (E : dt_ev p s m args meth c cc nL RX0 rty D [(d, .int)]) (h : dt_hq D A s (dt_w0 d h0 a (made, n, st, sz, mr, kt, nb, sl, dp, pc, rt)) H locs) (hdg : decode cc pw = .ok (.getfield 7, 3)) (kk : W p l e R s m args below meth c H locs cells slots Q (F0 m (pw + 3) ls (.ref (a 1) :: rest))) : W p l e R s m args below meth c H locs cells slots Q (F0 m pw ls (.ref h0 :: rest)) := dt_get0 E h rfl 1 (by decide) q30 rfl hdg kk
theorem dt_l0_st {made : Int32} {n : Nat} {st sz mr kt nb sl dp pc rt : dt_F} (E : dt_ev p s m args meth c cc nL RX0 rty D [(d, .int)]) (h : dt_hq D A s (dt_w0 d h0 a (made, n, st, sz, mr, kt, nb, sl, dp, pc, rt)) H locs) {j : Nat} (hj : j < 16) (hdg : decode cc pw = .ok (.iaload, 1)) (kk : W p l e R s m args below meth c H locs cells slots Q (F0 m (pw + 1) ls (.int (st j) :: rest))) : W p l e R s m args below meth c H locs cells slots Q (F0 m pw ls (.int (nI j) :: .ref (a 1) :: rest)) := dt_ld E h 1 0 rfl rfl hj hdg kk
theorem dt_s0_st {made : Int32} {n : Nat} {st sz mr kt nb sl dp pc rt : dt_F} (E : dt_ev p s m args meth c cc nL RX0 rty D [(d, .int)]) (h : dt_hq D A s (dt_w0 d h0 a (made, n, st, sz, mr, kt, nb, sl, dp, pc, rt)) H locs) {j : Nat} {x : Int32} (hj : j < 16) (hdg : decode cc pw = .ok (.iastore, 1)) (kk : ∀ (H1 : Heap) (locs1 : List Loc), dt_hq D A s (dt_w0 d h0 a (made, n, upd st j x, sz, mr, kt, nb, sl, dp, pc, rt)) H1 locs1 → W p l e R s m args below meth c H1 locs1 cells slots Q (F0 m (pw + 1) ls rest)) : W p l e R s m args below meth c H locs cells slots Q (F0 m pw ls (.int x :: .int (nI j) :: .ref (a 1) :: rest)) := dt_st E h 1 0 rfl rfl hj hdg kk
theorem dt_g0_sz {made : Int32} {n : Nat} {st sz mr kt nb sl dp pc rt : dt_F} (E : dt_ev p s m args meth c cc nL RX0 rty D [(d, .int)]) (h : dt_hq D A s (dt_w0 d h0 a (made, n, st, sz, mr, kt, nb, sl, dp, pc, rt)) H locs) (hdg : decode cc pw = .ok (.getfield 13, 3)) (kk : W p l e R s m args below meth c H locs cells slots Q (F0 m (pw + 3) ls (.ref (a 2) :: rest))) : W p l e R s m args below meth c H locs cells slots Q (F0 m pw ls (.ref h0 :: rest)) := dt_get0 E h rfl 2 (by decide) q31 rfl hdg kk
theorem dt_l0_sz {made : Int32} {n : Nat} {st sz mr kt nb sl dp pc rt : dt_F} (E : dt_ev p s m args meth c cc nL RX0 rty D [(d, .int)]) (h : dt_hq D A s (dt_w0 d h0 a (made, n, st, sz, mr, kt, nb, sl, dp, pc, rt)) H locs) {j : Nat} (hj : j < 16) (hdg : decode cc pw = .ok (.iaload, 1)) (kk : W p l e R s m args below meth c H locs cells slots Q (F0 m (pw + 1) ls (.int (sz j) :: rest))) : W p l e R s m args below meth c H locs cells slots Q (F0 m pw ls (.int (nI j) :: .ref (a 2) :: rest)) := dt_ld E h 2 0 rfl rfl hj hdg kk
theorem dt_s0_sz {made : Int32} {n : Nat} {st sz mr kt nb sl dp pc rt : dt_F} (E : dt_ev p s m args meth c cc nL RX0 rty D [(d, .int)]) (h : dt_hq D A s (dt_w0 d h0 a (made, n, st, sz, mr, kt, nb, sl, dp, pc, rt)) H locs) {j : Nat} {x : Int32} (hj : j < 16) (hdg : decode cc pw = .ok (.iastore, 1)) (kk : ∀ (H1 : Heap) (locs1 : List Loc), dt_hq D A s (dt_w0 d h0 a (made, n, st, upd sz j x, mr, kt, nb, sl, dp, pc, rt)) H1 locs1 → W p l e R s m args below meth c H1 locs1 cells slots Q (F0 m (pw + 1) ls rest)) : W p l e R s m args below meth c H locs cells slots Q (F0 m pw ls (.int x :: .int (nI j) :: .ref (a 2) :: rest)) := dt_st E h 2 0 rfl rfl hj hdg kk
theorem dt_g0_mr {made : Int32} {n : Nat} {st sz mr kt nb sl dp pc rt : dt_F} (E : dt_ev p s m args meth c cc nL RX0 rty D [(d, .int)]) (h : dt_hq D A s (dt_w0 d h0 a (made, n, st, sz, mr, kt, nb, sl, dp, pc, rt)) H locs) (hdg : decode cc pw = .ok (.getfield 16, 3)) (kk : W p l e R s m args below meth c H locs cells slots Q (F0 m (pw + 3) ls (.ref (a 3) :: rest))) : W p l e R s m args below meth c H locs cells slots Q (F0 m pw ls (.ref h0 :: rest)) := dt_get0 E h rfl 3 (by decide) q32 rfl hdg kk
theorem dt_l0_mr {made : Int32} {n : Nat} {st sz mr kt nb sl dp pc rt : dt_F} (E : dt_ev p s m args meth c cc nL RX0 rty D [(d, .int)]) (h : dt_hq D A s (dt_w0 d h0 a (made, n, st, sz, mr, kt, nb, sl, dp, pc, rt)) H locs) {j : Nat} (hj : j < 16) (hdg : decode cc pw = .ok (.iaload, 1)) (kk : W p l e R s m args below meth c H locs cells slots Q (F0 m (pw + 1) ls (.int (mr j) :: rest))) : W p l e R s m args below meth c H locs cells slots Q (F0 m pw ls (.int (nI j) :: .ref (a 3) :: rest)) := dt_ld E h 3 0 rfl rfl hj hdg kk
theorem dt_s0_mr {made : Int32} {n : Nat} {st sz mr kt nb sl dp pc rt : dt_F} (E : dt_ev p s m args meth c cc nL RX0 rty D [(d, .int)]) (h : dt_hq D A s (dt_w0 d h0 a (made, n, st, sz, mr, kt, nb, sl, dp, pc, rt)) H locs) {j : Nat} {x : Int32} (hj : j < 16) (hdg : decode cc pw = .ok (.iastore, 1)) (kk : ∀ (H1 : Heap) (locs1 : List Loc), dt_hq D A s (dt_w0 d h0 a (made, n, st, sz, upd mr j x, kt, nb, sl, dp, pc, rt)) H1 locs1 → W p l e R s m args below meth c H1 locs1 cells slots Q (F0 m (pw + 1) ls rest)) : W p l e R s m args below meth c H locs cells slots Q (F0 m pw ls (.int x :: .int (nI j) :: .ref (a 3) :: rest)) := dt_st E h 3 0 rfl rfl hj hdg kk
theorem dt_g0_kt {made : Int32} {n : Nat} {st sz mr kt nb sl dp pc rt : dt_F} (E : dt_ev p s m args meth c cc nL RX0 rty D [(d, .int)]) (h : dt_hq D A s (dt_w0 d h0 a (made, n, st, sz, mr, kt, nb, sl, dp, pc, rt)) H locs) (hdg : decode cc pw = .ok (.getfield 19, 3)) (kk : W p l e R s m args below meth c H locs cells slots Q (F0 m (pw + 3) ls (.ref (a 4) :: rest))) : W p l e R s m args below meth c H locs cells slots Q (F0 m pw ls (.ref h0 :: rest)) := dt_get0 E h rfl 4 (by decide) q33 rfl hdg kk
theorem dt_l0_kt {made : Int32} {n : Nat} {st sz mr kt nb sl dp pc rt : dt_F} (E : dt_ev p s m args meth c cc nL RX0 rty D [(d, .int)]) (h : dt_hq D A s (dt_w0 d h0 a (made, n, st, sz, mr, kt, nb, sl, dp, pc, rt)) H locs) {j : Nat} (hj : j < 16) (hdg : decode cc pw = .ok (.iaload, 1)) (kk : W p l e R s m args below meth c H locs cells slots Q (F0 m (pw + 1) ls (.int (kt j) :: rest))) : W p l e R s m args below meth c H locs cells slots Q (F0 m pw ls (.int (nI j) :: .ref (a 4) :: rest)) := dt_ld E h 4 0 rfl rfl hj hdg kk
theorem dt_s0_kt {made : Int32} {n : Nat} {st sz mr kt nb sl dp pc rt : dt_F} (E : dt_ev p s m args meth c cc nL RX0 rty D [(d, .int)]) (h : dt_hq D A s (dt_w0 d h0 a (made, n, st, sz, mr, kt, nb, sl, dp, pc, rt)) H locs) {j : Nat} {x : Int32} (hj : j < 16) (hdg : decode cc pw = .ok (.iastore, 1)) (kk : ∀ (H1 : Heap) (locs1 : List Loc), dt_hq D A s (dt_w0 d h0 a (made, n, st, sz, mr, upd kt j x, nb, sl, dp, pc, rt)) H1 locs1 → W p l e R s m args below meth c H1 locs1 cells slots Q (F0 m (pw + 1) ls rest)) : W p l e R s m args below meth c H locs cells slots Q (F0 m pw ls (.int x :: .int (nI j) :: .ref (a 4) :: rest)) := dt_st E h 4 0 rfl rfl hj hdg kk
theorem dt_g0_nb {made : Int32} {n : Nat} {st sz mr kt nb sl dp pc rt : dt_F} (E : dt_ev p s m args meth c cc nL RX0 rty D [(d, .int)]) (h : dt_hq D A s (dt_w0 d h0 a (made, n, st, sz, mr, kt, nb, sl, dp, pc, rt)) H locs) (hdg : decode cc pw = .ok (.getfield 22, 3)) (kk : W p l e R s m args below meth c H locs cells slots Q (F0 m (pw + 3) ls (.ref (a 5) :: rest))) : W p l e R s m args below meth c H locs cells slots Q (F0 m pw ls (.ref h0 :: rest)) := dt_get0 E h rfl 5 (by decide) q34 rfl hdg kk
theorem dt_l0_nb {made : Int32} {n : Nat} {st sz mr kt nb sl dp pc rt : dt_F} (E : dt_ev p s m args meth c cc nL RX0 rty D [(d, .int)]) (h : dt_hq D A s (dt_w0 d h0 a (made, n, st, sz, mr, kt, nb, sl, dp, pc, rt)) H locs) {j : Nat} (hj : j < 16) (hdg : decode cc pw = .ok (.iaload, 1)) (kk : W p l e R s m args below meth c H locs cells slots Q (F0 m (pw + 1) ls (.int (nb j) :: rest))) : W p l e R s m args below meth c H locs cells slots Q (F0 m pw ls (.int (nI j) :: .ref (a 5) :: rest)) := dt_ld E h 5 0 rfl rfl hj hdg kk
theorem dt_s0_nb {made : Int32} {n : Nat} {st sz mr kt nb sl dp pc rt : dt_F} (E : dt_ev p s m args meth c cc nL RX0 rty D [(d, .int)]) (h : dt_hq D A s (dt_w0 d h0 a (made, n, st, sz, mr, kt, nb, sl, dp, pc, rt)) H locs) {j : Nat} {x : Int32} (hj : j < 16) (hdg : decode cc pw = .ok (.iastore, 1)) (kk : ∀ (H1 : Heap) (locs1 : List Loc), dt_hq D A s (dt_w0 d h0 a (made, n, st, sz, mr, kt, upd nb j x, sl, dp, pc, rt)) H1 locs1 → W p l e R s m args below meth c H1 locs1 cells slots Q (F0 m (pw + 1) ls rest)) : W p l e R s m args below meth c H locs cells slots Q (F0 m pw ls (.int x :: .int (nI j) :: .ref (a 5) :: rest)) := dt_st E h 5 0 rfl rfl hj hdg kk
theorem dt_g0_n {made : Int32} {n : Nat} {st sz mr kt nb sl dp pc rt : dt_F} (E : dt_ev p s m args meth c cc nL RX0 rty D [(d, .int)]) (h : dt_hq D A s (dt_w0 d h0 a (made, n, st, sz, mr, kt, nb, sl, dp, pc, rt)) H locs) (hdg : decode cc pw = .ok (.getfield 41, 3)) (kk : W p l e R s m args below meth c H locs cells slots Q (F0 m (pw + 3) ls (.int (nI n) :: rest))) : W p l e R s m args below meth c H locs cells slots Q (F0 m pw ls (.ref h0 :: rest)) := dt_get0 E h rfl 6 (by decide) q35 rfl hdg kk
theorem dt_p0_n {made : Int32} {n : Nat} {st sz mr kt nb sl dp pc rt : dt_F} {n2 : Nat} (E : dt_ev p s m args meth c cc nL RX0 rty D [(d, .int)]) (h : dt_hq D A s (dt_w0 d h0 a (made, n, st, sz, mr, kt, nb, sl, dp, pc, rt)) H locs) (hdg : decode cc pw = .ok (.putfield 41, 3)) (kk : ∀ (H1 : Heap) (locs1 : List Loc), dt_hq D A s (dt_w0 d h0 a (made, n2, st, sz, mr, kt, nb, sl, dp, pc, rt)) H1 locs1 → W p l e R s m args below meth c H1 locs1 cells slots Q (F0 m (pw + 3) ls rest)) : W p l e R s m args below meth c H locs cells slots Q (F0 m pw ls (.int (nI n2) :: .ref h0 :: rest)) := dt_put0 E h rfl 6 (by decide) q35 rfl (by decide +kernel) (Nat.le_of_ble_eq_true rfl) hdg kk
theorem dt_g0_sl {made : Int32} {n : Nat} {st sz mr kt nb sl dp pc rt : dt_F} (E : dt_ev p s m args meth c cc nL RX0 rty D [(d, .int)]) (h : dt_hq D A s (dt_w0 d h0 a (made, n, st, sz, mr, kt, nb, sl, dp, pc, rt)) H locs) (hdg : decode cc pw = .ok (.getfield 25, 3)) (kk : W p l e R s m args below meth c H locs cells slots Q (F0 m (pw + 3) ls (.ref (a 6) :: rest))) : W p l e R s m args below meth c H locs cells slots Q (F0 m pw ls (.ref h0 :: rest)) := dt_get0 E h rfl 7 (by decide) q36 rfl hdg kk
theorem dt_l0_sl {made : Int32} {n : Nat} {st sz mr kt nb sl dp pc rt : dt_F} (E : dt_ev p s m args meth c cc nL RX0 rty D [(d, .int)]) (h : dt_hq D A s (dt_w0 d h0 a (made, n, st, sz, mr, kt, nb, sl, dp, pc, rt)) H locs) {j : Nat} (hj : j < 16) (hdg : decode cc pw = .ok (.iaload, 1)) (kk : W p l e R s m args below meth c H locs cells slots Q (F0 m (pw + 1) ls (.int (sl j) :: rest))) : W p l e R s m args below meth c H locs cells slots Q (F0 m pw ls (.int (nI j) :: .ref (a 6) :: rest)) := dt_ld E h 6 0 rfl rfl hj hdg kk
theorem dt_s0_sl {made : Int32} {n : Nat} {st sz mr kt nb sl dp pc rt : dt_F} (E : dt_ev p s m args meth c cc nL RX0 rty D [(d, .int)]) (h : dt_hq D A s (dt_w0 d h0 a (made, n, st, sz, mr, kt, nb, sl, dp, pc, rt)) H locs) {j : Nat} {x : Int32} (hj : j < 16) (hdg : decode cc pw = .ok (.iastore, 1)) (kk : ∀ (H1 : Heap) (locs1 : List Loc), dt_hq D A s (dt_w0 d h0 a (made, n, st, sz, mr, kt, nb, upd sl j x, dp, pc, rt)) H1 locs1 → W p l e R s m args below meth c H1 locs1 cells slots Q (F0 m (pw + 1) ls rest)) : W p l e R s m args below meth c H locs cells slots Q (F0 m pw ls (.int x :: .int (nI j) :: .ref (a 6) :: rest)) := dt_st E h 6 0 rfl rfl hj hdg kk
theorem dt_g0_dp {made : Int32} {n : Nat} {st sz mr kt nb sl dp pc rt : dt_F} (E : dt_ev p s m args meth c cc nL RX0 rty D [(d, .int)]) (h : dt_hq D A s (dt_w0 d h0 a (made, n, st, sz, mr, kt, nb, sl, dp, pc, rt)) H locs) (hdg : decode cc pw = .ok (.getfield 28, 3)) (kk : W p l e R s m args below meth c H locs cells slots Q (F0 m (pw + 3) ls (.ref (a 7) :: rest))) : W p l e R s m args below meth c H locs cells slots Q (F0 m pw ls (.ref h0 :: rest)) := dt_get0 E h rfl 8 (by decide) q37 rfl hdg kk
theorem dt_l0_dp {made : Int32} {n : Nat} {st sz mr kt nb sl dp pc rt : dt_F} (E : dt_ev p s m args meth c cc nL RX0 rty D [(d, .int)]) (h : dt_hq D A s (dt_w0 d h0 a (made, n, st, sz, mr, kt, nb, sl, dp, pc, rt)) H locs) {j : Nat} (hj : j < 16) (hdg : decode cc pw = .ok (.iaload, 1)) (kk : W p l e R s m args below meth c H locs cells slots Q (F0 m (pw + 1) ls (.int (dp j) :: rest))) : W p l e R s m args below meth c H locs cells slots Q (F0 m pw ls (.int (nI j) :: .ref (a 7) :: rest)) := dt_ld E h 7 0 rfl rfl hj hdg kk
theorem dt_s0_dp {made : Int32} {n : Nat} {st sz mr kt nb sl dp pc rt : dt_F} (E : dt_ev p s m args meth c cc nL RX0 rty D [(d, .int)]) (h : dt_hq D A s (dt_w0 d h0 a (made, n, st, sz, mr, kt, nb, sl, dp, pc, rt)) H locs) {j : Nat} {x : Int32} (hj : j < 16) (hdg : decode cc pw = .ok (.iastore, 1)) (kk : ∀ (H1 : Heap) (locs1 : List Loc), dt_hq D A s (dt_w0 d h0 a (made, n, st, sz, mr, kt, nb, sl, upd dp j x, pc, rt)) H1 locs1 → W p l e R s m args below meth c H1 locs1 cells slots Q (F0 m (pw + 1) ls rest)) : W p l e R s m args below meth c H locs cells slots Q (F0 m pw ls (.int x :: .int (nI j) :: .ref (a 7) :: rest)) := dt_st E h 7 0 rfl rfl hj hdg kk
theorem dt_g0_pc {made : Int32} {n : Nat} {st sz mr kt nb sl dp pc rt : dt_F} (E : dt_ev p s m args meth c cc nL RX0 rty D [(d, .int)]) (h : dt_hq D A s (dt_w0 d h0 a (made, n, st, sz, mr, kt, nb, sl, dp, pc, rt)) H locs) (hdg : decode cc pw = .ok (.getfield 31, 3)) (kk : W p l e R s m args below meth c H locs cells slots Q (F0 m (pw + 3) ls (.ref (a 8) :: rest))) : W p l e R s m args below meth c H locs cells slots Q (F0 m pw ls (.ref h0 :: rest)) := dt_get0 E h rfl 9 (by decide) q38 rfl hdg kk
theorem dt_l0_pc {made : Int32} {n : Nat} {st sz mr kt nb sl dp pc rt : dt_F} (E : dt_ev p s m args meth c cc nL RX0 rty D [(d, .int)]) (h : dt_hq D A s (dt_w0 d h0 a (made, n, st, sz, mr, kt, nb, sl, dp, pc, rt)) H locs) {j : Nat} (hj : j < 16) (hdg : decode cc pw = .ok (.iaload, 1)) (kk : W p l e R s m args below meth c H locs cells slots Q (F0 m (pw + 1) ls (.int (pc j) :: rest))) : W p l e R s m args below meth c H locs cells slots Q (F0 m pw ls (.int (nI j) :: .ref (a 8) :: rest)) := dt_ld E h 8 0 rfl rfl hj hdg kk
theorem dt_s0_pc {made : Int32} {n : Nat} {st sz mr kt nb sl dp pc rt : dt_F} (E : dt_ev p s m args meth c cc nL RX0 rty D [(d, .int)]) (h : dt_hq D A s (dt_w0 d h0 a (made, n, st, sz, mr, kt, nb, sl, dp, pc, rt)) H locs) {j : Nat} {x : Int32} (hj : j < 16) (hdg : decode cc pw = .ok (.iastore, 1)) (kk : ∀ (H1 : Heap) (locs1 : List Loc), dt_hq D A s (dt_w0 d h0 a (made, n, st, sz, mr, kt, nb, sl, dp, upd pc j x, rt)) H1 locs1 → W p l e R s m args below meth c H1 locs1 cells slots Q (F0 m (pw + 1) ls rest)) : W p l e R s m args below meth c H locs cells slots Q (F0 m pw ls (.int x :: .int (nI j) :: .ref (a 8) :: rest)) := dt_st E h 8 0 rfl rfl hj hdg kk
theorem dt_g0_rt {made : Int32} {n : Nat} {st sz mr kt nb sl dp pc rt : dt_F} (E : dt_ev p s m args meth c cc nL RX0 rty D [(d, .int)]) (h : dt_hq D A s (dt_w0 d h0 a (made, n, st, sz, mr, kt, nb, sl, dp, pc, rt)) H locs) (hdg : decode cc pw = .ok (.getfield 34, 3)) (kk : W p l e R s m args below meth c H locs cells slots Q (F0 m (pw + 3) ls (.ref (a 9) :: rest))) : W p l e R s m args below meth c H locs cells slots Q (F0 m pw ls (.ref h0 :: rest)) := dt_get0 E h rfl 10 (by decide) q39 rfl hdg kk
theorem dt_l0_rt {made : Int32} {n : Nat} {st sz mr kt nb sl dp pc rt : dt_F} (E : dt_ev p s m args meth c cc nL RX0 rty D [(d, .int)]) (h : dt_hq D A s (dt_w0 d h0 a (made, n, st, sz, mr, kt, nb, sl, dp, pc, rt)) H locs) {j : Nat} (hj : j < 16) (hdg : decode cc pw = .ok (.iaload, 1)) (kk : W p l e R s m args below meth c H locs cells slots Q (F0 m (pw + 1) ls (.int (rt j) :: rest))) : W p l e R s m args below meth c H locs cells slots Q (F0 m pw ls (.int (nI j) :: .ref (a 9) :: rest)) := dt_ld E h 9 0 rfl rfl hj hdg kk
theorem dt_s0_rt {made : Int32} {n : Nat} {st sz mr kt nb sl dp pc rt : dt_F} (E : dt_ev p s m args meth c cc nL RX0 rty D [(d, .int)]) (h : dt_hq D A s (dt_w0 d h0 a (made, n, st, sz, mr, kt, nb, sl, dp, pc, rt)) H locs) {j : Nat} {x : Int32} (hj : j < 16) (hdg : decode cc pw = .ok (.iastore, 1)) (kk : ∀ (H1 : Heap) (locs1 : List Loc), dt_hq D A s (dt_w0 d h0 a (made, n, st, sz, mr, kt, nb, sl, dp, pc, upd rt j x)) H1 locs1 → W p l e R s m args below meth c H1 locs1 cells slots Q (F0 m (pw + 1) ls rest)) : W p l e R s m args below meth c H locs cells slots Q (F0 m pw ls (.int x :: .int (nI j) :: .ref (a 9) :: rest)) := dt_st E h 9 0 rfl rfl hj hdg kk
theorem dt_g1_hd {made : Int32} {hd pc rt par st sz mr nb gg : dt_F} (E : dt_ev p s m args meth c cc nL RX1 rty D [(d, .int), (dz, .boolean)]) (h : dt_hq D A s (dt_w1 d dz h0 a (hd, pc, rt, par, st, sz, mr, nb, made, gg)) H locs) (hdg : decode cc pw = .ok (.getfield 7, 3)) (kk : W p l e R s m args below meth c H locs cells slots Q (F0 m (pw + 3) ls (.ref (a 1) :: rest))) : W p l e R s m args below meth c H locs cells slots Q (F0 m pw ls (.ref h0 :: rest)) := dt_get1 E h rfl 0 (by decide) q154 rfl hdg kk
theorem dt_l1_hd {made : Int32} {hd pc rt par st sz mr nb gg : dt_F} (E : dt_ev p s m args meth c cc nL RX1 rty D [(d, .int), (dz, .boolean)]) (h : dt_hq D A s (dt_w1 d dz h0 a (hd, pc, rt, par, st, sz, mr, nb, made, gg)) H locs) {j : Nat} (hj : j < 16) (hdg : decode cc pw = .ok (.baload, 1)) (kk : W p l e R s m args below meth c H locs cells slots Q (F0 m (pw + 1) ls (.int (hd j) :: rest))) : W p l e R s m args below meth c H locs cells slots Q (F0 m pw ls (.int (nI j) :: .ref (a 1) :: rest)) := dt_ldz E h 1 1 rfl rfl hj hdg kk
theorem dt_s1_hd {made : Int32} {hd pc rt par st sz mr nb gg : dt_F} (E : dt_ev p s m args meth c cc nL RX1 rty D [(d, .int), (dz, .boolean)]) (h : dt_hq D A s (dt_w1 d dz h0 a (hd, pc, rt, par, st, sz, mr, nb, made, gg)) H locs) {j : Nat} {x : Int32} (hx : vp_nar .boolean x = x) (hj : j < 16) (hdg : decode cc pw = .ok (.bastore, 1)) (kk : ∀ (H1 : Heap) (locs1 : List Loc), dt_hq D A s (dt_w1 d dz h0 a (upd hd j x, pc, rt, par, st, sz, mr, nb, made, gg)) H1 locs1 → W p l e R s m args below meth c H1 locs1 cells slots Q (F0 m (pw + 1) ls rest)) : W p l e R s m args below meth c H locs cells slots Q (F0 m pw ls (.int x :: .int (nI j) :: .ref (a 1) :: rest)) := dt_stz E h 1 1 rfl rfl hx hj hdg kk
theorem dt_g1_pc {made : Int32} {hd pc rt par st sz mr nb gg : dt_F} (E : dt_ev p s m args meth c cc nL RX1 rty D [(d, .int), (dz, .boolean)]) (h : dt_hq D A s (dt_w1 d dz h0 a (hd, pc, rt, par, st, sz, mr, nb, made, gg)) H locs) (hdg : decode cc pw = .ok (.getfield 13, 3)) (kk : W p l e R s m args below meth c H locs cells slots Q (F0 m (pw + 3) ls (.ref (a 2) :: rest))) : W p l e R s m args below meth c H locs cells slots Q (F0 m pw ls (.ref h0 :: rest)) := dt_get1 E h rfl 1 (by decide) q155 rfl hdg kk
theorem dt_l1_pc {made : Int32} {hd pc rt par st sz mr nb gg : dt_F} (E : dt_ev p s m args meth c cc nL RX1 rty D [(d, .int), (dz, .boolean)]) (h : dt_hq D A s (dt_w1 d dz h0 a (hd, pc, rt, par, st, sz, mr, nb, made, gg)) H locs) {j : Nat} (hj : j < 16) (hdg : decode cc pw = .ok (.iaload, 1)) (kk : W p l e R s m args below meth c H locs cells slots Q (F0 m (pw + 1) ls (.int (pc j) :: rest))) : W p l e R s m args below meth c H locs cells slots Q (F0 m pw ls (.int (nI j) :: .ref (a 2) :: rest)) := dt_ld E h 2 0 rfl rfl hj hdg kk
theorem dt_s1_pc {made : Int32} {hd pc rt par st sz mr nb gg : dt_F} (E : dt_ev p s m args meth c cc nL RX1 rty D [(d, .int), (dz, .boolean)]) (h : dt_hq D A s (dt_w1 d dz h0 a (hd, pc, rt, par, st, sz, mr, nb, made, gg)) H locs) {j : Nat} {x : Int32} (hj : j < 16) (hdg : decode cc pw = .ok (.iastore, 1)) (kk : ∀ (H1 : Heap) (locs1 : List Loc), dt_hq D A s (dt_w1 d dz h0 a (hd, upd pc j x, rt, par, st, sz, mr, nb, made, gg)) H1 locs1 → W p l e R s m args below meth c H1 locs1 cells slots Q (F0 m (pw + 1) ls rest)) : W p l e R s m args below meth c H locs cells slots Q (F0 m pw ls (.int x :: .int (nI j) :: .ref (a 2) :: rest)) := dt_st E h 2 0 rfl rfl hj hdg kk
theorem dt_g1_rt {made : Int32} {hd pc rt par st sz mr nb gg : dt_F} (E : dt_ev p s m args meth c cc nL RX1 rty D [(d, .int), (dz, .boolean)]) (h : dt_hq D A s (dt_w1 d dz h0 a (hd, pc, rt, par, st, sz, mr, nb, made, gg)) H locs) (hdg : decode cc pw = .ok (.getfield 17, 3)) (kk : W p l e R s m args below meth c H locs cells slots Q (F0 m (pw + 3) ls (.ref (a 3) :: rest))) : W p l e R s m args below meth c H locs cells slots Q (F0 m pw ls (.ref h0 :: rest)) := dt_get1 E h rfl 2 (by decide) q156 rfl hdg kk
theorem dt_l1_rt {made : Int32} {hd pc rt par st sz mr nb gg : dt_F} (E : dt_ev p s m args meth c cc nL RX1 rty D [(d, .int), (dz, .boolean)]) (h : dt_hq D A s (dt_w1 d dz h0 a (hd, pc, rt, par, st, sz, mr, nb, made, gg)) H locs) {j : Nat} (hj : j < 16) (hdg : decode cc pw = .ok (.iaload, 1)) (kk : W p l e R s m args below meth c H locs cells slots Q (F0 m (pw + 1) ls (.int (rt j) :: rest))) : W p l e R s m args below meth c H locs cells slots Q (F0 m pw ls (.int (nI j) :: .ref (a 3) :: rest)) := dt_ld E h 3 0 rfl rfl hj hdg kk
theorem dt_s1_rt {made : Int32} {hd pc rt par st sz mr nb gg : dt_F} (E : dt_ev p s m args meth c cc nL RX1 rty D [(d, .int), (dz, .boolean)]) (h : dt_hq D A s (dt_w1 d dz h0 a (hd, pc, rt, par, st, sz, mr, nb, made, gg)) H locs) {j : Nat} {x : Int32} (hj : j < 16) (hdg : decode cc pw = .ok (.iastore, 1)) (kk : ∀ (H1 : Heap) (locs1 : List Loc), dt_hq D A s (dt_w1 d dz h0 a (hd, pc, upd rt j x, par, st, sz, mr, nb, made, gg)) H1 locs1 → W p l e R s m args below meth c H1 locs1 cells slots Q (F0 m (pw + 1) ls rest)) : W p l e R s m args below meth c H locs cells slots Q (F0 m pw ls (.int x :: .int (nI j) :: .ref (a 3) :: rest)) := dt_st E h 3 0 rfl rfl hj hdg kk
theorem dt_g1_par {made : Int32} {hd pc rt par st sz mr nb gg : dt_F} (E : dt_ev p s m args meth c cc nL RX1 rty D [(d, .int), (dz, .boolean)]) (h : dt_hq D A s (dt_w1 d dz h0 a (hd, pc, rt, par, st, sz, mr, nb, made, gg)) H locs) (hdg : decode cc pw = .ok (.getfield 20, 3)) (kk : W p l e R s m args below meth c H locs cells slots Q (F0 m (pw + 3) ls (.ref (a 4) :: rest))) : W p l e R s m args below meth c H locs cells slots Q (F0 m pw ls (.ref h0 :: rest)) := dt_get1 E h rfl 3 (by decide) q157 rfl hdg kk
theorem dt_l1_par {made : Int32} {hd pc rt par st sz mr nb gg : dt_F} (E : dt_ev p s m args meth c cc nL RX1 rty D [(d, .int), (dz, .boolean)]) (h : dt_hq D A s (dt_w1 d dz h0 a (hd, pc, rt, par, st, sz, mr, nb, made, gg)) H locs) {j : Nat} (hj : j < 16) (hdg : decode cc pw = .ok (.iaload, 1)) (kk : W p l e R s m args below meth c H locs cells slots Q (F0 m (pw + 1) ls (.int (par j) :: rest))) : W p l e R s m args below meth c H locs cells slots Q (F0 m pw ls (.int (nI j) :: .ref (a 4) :: rest)) := dt_ld E h 4 0 rfl rfl hj hdg kk
theorem dt_s1_par {made : Int32} {hd pc rt par st sz mr nb gg : dt_F} (E : dt_ev p s m args meth c cc nL RX1 rty D [(d, .int), (dz, .boolean)]) (h : dt_hq D A s (dt_w1 d dz h0 a (hd, pc, rt, par, st, sz, mr, nb, made, gg)) H locs) {j : Nat} {x : Int32} (hj : j < 16) (hdg : decode cc pw = .ok (.iastore, 1)) (kk : ∀ (H1 : Heap) (locs1 : List Loc), dt_hq D A s (dt_w1 d dz h0 a (hd, pc, rt, upd par j x, st, sz, mr, nb, made, gg)) H1 locs1 → W p l e R s m args below meth c H1 locs1 cells slots Q (F0 m (pw + 1) ls rest)) : W p l e R s m args below meth c H locs cells slots Q (F0 m pw ls (.int x :: .int (nI j) :: .ref (a 4) :: rest)) := dt_st E h 4 0 rfl rfl hj hdg kk
theorem dt_g1_st {made : Int32} {hd pc rt par st sz mr nb gg : dt_F} (E : dt_ev p s m args meth c cc nL RX1 rty D [(d, .int), (dz, .boolean)]) (h : dt_hq D A s (dt_w1 d dz h0 a (hd, pc, rt, par, st, sz, mr, nb, made, gg)) H locs) (hdg : decode cc pw = .ok (.getfield 23, 3)) (kk : W p l e R s m args below meth c H locs cells slots Q (F0 m (pw + 3) ls (.ref (a 5) :: rest))) : W p l e R s m args below meth c H locs cells slots Q (F0 m pw ls (.ref h0 :: rest)) := dt_get1 E h rfl 4 (by decide) q158 rfl hdg kk
theorem dt_l1_st {made : Int32} {hd pc rt par st sz mr nb gg : dt_F} (E : dt_ev p s m args meth c cc nL RX1 rty D [(d, .int), (dz, .boolean)]) (h : dt_hq D A s (dt_w1 d dz h0 a (hd, pc, rt, par, st, sz, mr, nb, made, gg)) H locs) {j : Nat} (hj : j < 16) (hdg : decode cc pw = .ok (.iaload, 1)) (kk : W p l e R s m args below meth c H locs cells slots Q (F0 m (pw + 1) ls (.int (st j) :: rest))) : W p l e R s m args below meth c H locs cells slots Q (F0 m pw ls (.int (nI j) :: .ref (a 5) :: rest)) := dt_ld E h 5 0 rfl rfl hj hdg kk
theorem dt_s1_st {made : Int32} {hd pc rt par st sz mr nb gg : dt_F} (E : dt_ev p s m args meth c cc nL RX1 rty D [(d, .int), (dz, .boolean)]) (h : dt_hq D A s (dt_w1 d dz h0 a (hd, pc, rt, par, st, sz, mr, nb, made, gg)) H locs) {j : Nat} {x : Int32} (hj : j < 16) (hdg : decode cc pw = .ok (.iastore, 1)) (kk : ∀ (H1 : Heap) (locs1 : List Loc), dt_hq D A s (dt_w1 d dz h0 a (hd, pc, rt, par, upd st j x, sz, mr, nb, made, gg)) H1 locs1 → W p l e R s m args below meth c H1 locs1 cells slots Q (F0 m (pw + 1) ls rest)) : W p l e R s m args below meth c H locs cells slots Q (F0 m pw ls (.int x :: .int (nI j) :: .ref (a 5) :: rest)) := dt_st E h 5 0 rfl rfl hj hdg kk
theorem dt_g1_sz {made : Int32} {hd pc rt par st sz mr nb gg : dt_F} (E : dt_ev p s m args meth c cc nL RX1 rty D [(d, .int), (dz, .boolean)]) (h : dt_hq D A s (dt_w1 d dz h0 a (hd, pc, rt, par, st, sz, mr, nb, made, gg)) H locs) (hdg : decode cc pw = .ok (.getfield 26, 3)) (kk : W p l e R s m args below meth c H locs cells slots Q (F0 m (pw + 3) ls (.ref (a 6) :: rest))) : W p l e R s m args below meth c H locs cells slots Q (F0 m pw ls (.ref h0 :: rest)) := dt_get1 E h rfl 5 (by decide) q159 rfl hdg kk
theorem dt_l1_sz {made : Int32} {hd pc rt par st sz mr nb gg : dt_F} (E : dt_ev p s m args meth c cc nL RX1 rty D [(d, .int), (dz, .boolean)]) (h : dt_hq D A s (dt_w1 d dz h0 a (hd, pc, rt, par, st, sz, mr, nb, made, gg)) H locs) {j : Nat} (hj : j < 16) (hdg : decode cc pw = .ok (.iaload, 1)) (kk : W p l e R s m args below meth c H locs cells slots Q (F0 m (pw + 1) ls (.int (sz j) :: rest))) : W p l e R s m args below meth c H locs cells slots Q (F0 m pw ls (.int (nI j) :: .ref (a 6) :: rest)) := dt_ld E h 6 0 rfl rfl hj hdg kk
theorem dt_s1_sz {made : Int32} {hd pc rt par st sz mr nb gg : dt_F} (E : dt_ev p s m args meth c cc nL RX1 rty D [(d, .int), (dz, .boolean)]) (h : dt_hq D A s (dt_w1 d dz h0 a (hd, pc, rt, par, st, sz, mr, nb, made, gg)) H locs) {j : Nat} {x : Int32} (hj : j < 16) (hdg : decode cc pw = .ok (.iastore, 1)) (kk : ∀ (H1 : Heap) (locs1 : List Loc), dt_hq D A s (dt_w1 d dz h0 a (hd, pc, rt, par, st, upd sz j x, mr, nb, made, gg)) H1 locs1 → W p l e R s m args below meth c H1 locs1 cells slots Q (F0 m (pw + 1) ls rest)) : W p l e R s m args below meth c H locs cells slots Q (F0 m pw ls (.int x :: .int (nI j) :: .ref (a 6) :: rest)) := dt_st E h 6 0 rfl rfl hj hdg kk
theorem dt_g1_mr {made : Int32} {hd pc rt par st sz mr nb gg : dt_F} (E : dt_ev p s m args meth c cc nL RX1 rty D [(d, .int), (dz, .boolean)]) (h : dt_hq D A s (dt_w1 d dz h0 a (hd, pc, rt, par, st, sz, mr, nb, made, gg)) H locs) (hdg : decode cc pw = .ok (.getfield 29, 3)) (kk : W p l e R s m args below meth c H locs cells slots Q (F0 m (pw + 3) ls (.ref (a 7) :: rest))) : W p l e R s m args below meth c H locs cells slots Q (F0 m pw ls (.ref h0 :: rest)) := dt_get1 E h rfl 6 (by decide) q160 rfl hdg kk
theorem dt_l1_mr {made : Int32} {hd pc rt par st sz mr nb gg : dt_F} (E : dt_ev p s m args meth c cc nL RX1 rty D [(d, .int), (dz, .boolean)]) (h : dt_hq D A s (dt_w1 d dz h0 a (hd, pc, rt, par, st, sz, mr, nb, made, gg)) H locs) {j : Nat} (hj : j < 16) (hdg : decode cc pw = .ok (.iaload, 1)) (kk : W p l e R s m args below meth c H locs cells slots Q (F0 m (pw + 1) ls (.int (mr j) :: rest))) : W p l e R s m args below meth c H locs cells slots Q (F0 m pw ls (.int (nI j) :: .ref (a 7) :: rest)) := dt_ld E h 7 0 rfl rfl hj hdg kk
theorem dt_s1_mr {made : Int32} {hd pc rt par st sz mr nb gg : dt_F} (E : dt_ev p s m args meth c cc nL RX1 rty D [(d, .int), (dz, .boolean)]) (h : dt_hq D A s (dt_w1 d dz h0 a (hd, pc, rt, par, st, sz, mr, nb, made, gg)) H locs) {j : Nat} {x : Int32} (hj : j < 16) (hdg : decode cc pw = .ok (.iastore, 1)) (kk : ∀ (H1 : Heap) (locs1 : List Loc), dt_hq D A s (dt_w1 d dz h0 a (hd, pc, rt, par, st, sz, upd mr j x, nb, made, gg)) H1 locs1 → W p l e R s m args below meth c H1 locs1 cells slots Q (F0 m (pw + 1) ls rest)) : W p l e R s m args below meth c H locs cells slots Q (F0 m pw ls (.int x :: .int (nI j) :: .ref (a 7) :: rest)) := dt_st E h 7 0 rfl rfl hj hdg kk
theorem dt_g1_nb {made : Int32} {hd pc rt par st sz mr nb gg : dt_F} (E : dt_ev p s m args meth c cc nL RX1 rty D [(d, .int), (dz, .boolean)]) (h : dt_hq D A s (dt_w1 d dz h0 a (hd, pc, rt, par, st, sz, mr, nb, made, gg)) H locs) (hdg : decode cc pw = .ok (.getfield 32, 3)) (kk : W p l e R s m args below meth c H locs cells slots Q (F0 m (pw + 3) ls (.ref (a 8) :: rest))) : W p l e R s m args below meth c H locs cells slots Q (F0 m pw ls (.ref h0 :: rest)) := dt_get1 E h rfl 7 (by decide) q161 rfl hdg kk
theorem dt_l1_nb {made : Int32} {hd pc rt par st sz mr nb gg : dt_F} (E : dt_ev p s m args meth c cc nL RX1 rty D [(d, .int), (dz, .boolean)]) (h : dt_hq D A s (dt_w1 d dz h0 a (hd, pc, rt, par, st, sz, mr, nb, made, gg)) H locs) {j : Nat} (hj : j < 16) (hdg : decode cc pw = .ok (.iaload, 1)) (kk : W p l e R s m args below meth c H locs cells slots Q (F0 m (pw + 1) ls (.int (nb j) :: rest))) : W p l e R s m args below meth c H locs cells slots Q (F0 m pw ls (.int (nI j) :: .ref (a 8) :: rest)) := dt_ld E h 8 0 rfl rfl hj hdg kk
theorem dt_s1_nb {made : Int32} {hd pc rt par st sz mr nb gg : dt_F} (E : dt_ev p s m args meth c cc nL RX1 rty D [(d, .int), (dz, .boolean)]) (h : dt_hq D A s (dt_w1 d dz h0 a (hd, pc, rt, par, st, sz, mr, nb, made, gg)) H locs) {j : Nat} {x : Int32} (hj : j < 16) (hdg : decode cc pw = .ok (.iastore, 1)) (kk : ∀ (H1 : Heap) (locs1 : List Loc), dt_hq D A s (dt_w1 d dz h0 a (hd, pc, rt, par, st, sz, mr, upd nb j x, made, gg)) H1 locs1 → W p l e R s m args below meth c H1 locs1 cells slots Q (F0 m (pw + 1) ls rest)) : W p l e R s m args below meth c H locs cells slots Q (F0 m pw ls (.int x :: .int (nI j) :: .ref (a 8) :: rest)) := dt_st E h 8 0 rfl rfl hj hdg kk
theorem dt_g1_made {made : Int32} {hd pc rt par st sz mr nb gg : dt_F} (E : dt_ev p s m args meth c cc nL RX1 rty D [(d, .int), (dz, .boolean)]) (h : dt_hq D A s (dt_w1 d dz h0 a (hd, pc, rt, par, st, sz, mr, nb, made, gg)) H locs) (hdg : decode cc pw = .ok (.getfield 35, 3)) (kk : W p l e R s m args below meth c H locs cells slots Q (F0 m (pw + 3) ls (.int made :: rest))) : W p l e R s m args below meth c H locs cells slots Q (F0 m pw ls (.ref h0 :: rest)) := dt_get1 E h rfl 8 (by decide) q162 rfl hdg kk
theorem dt_p1_made {made : Int32} {hd pc rt par st sz mr nb gg : dt_F} {x : Int32} (E : dt_ev p s m args meth c cc nL RX1 rty D [(d, .int), (dz, .boolean)]) (h : dt_hq D A s (dt_w1 d dz h0 a (hd, pc, rt, par, st, sz, mr, nb, made, gg)) H locs) (hdg : decode cc pw = .ok (.putfield 35, 3)) (kk : ∀ (H1 : Heap) (locs1 : List Loc), dt_hq D A s (dt_w1 d dz h0 a (hd, pc, rt, par, st, sz, mr, nb, x, gg)) H1 locs1 → W p l e R s m args below meth c H1 locs1 cells slots Q (F0 m (pw + 3) ls rest)) : W p l e R s m args below meth c H locs cells slots Q (F0 m pw ls (.int x :: .ref h0 :: rest)) := dt_put1 E h rfl 8 (by decide) q162 rfl (by decide +kernel) (Nat.le_of_ble_eq_true rfl) hdg kk
theorem dt_g1_gg {made : Int32} {hd pc rt par st sz mr nb gg : dt_F} (E : dt_ev p s m args meth c cc nL RX1 rty D [(d, .int), (dz, .boolean)]) (h : dt_hq D A s (dt_w1 d dz h0 a (hd, pc, rt, par, st, sz, mr, nb, made, gg)) H locs) (hdg : decode cc pw = .ok (.getfield 39, 3)) (kk : W p l e R s m args below meth c H locs cells slots Q (F0 m (pw + 3) ls (.ref (a 9) :: rest))) : W p l e R s m args below meth c H locs cells slots Q (F0 m pw ls (.ref h0 :: rest)) := dt_get1 E h rfl 9 (by decide) q163 rfl hdg kk
theorem dt_l1_gg {made : Int32} {hd pc rt par st sz mr nb gg : dt_F} (E : dt_ev p s m args meth c cc nL RX1 rty D [(d, .int), (dz, .boolean)]) (h : dt_hq D A s (dt_w1 d dz h0 a (hd, pc, rt, par, st, sz, mr, nb, made, gg)) H locs) {j : Nat} (hj : j < 16) (hdg : decode cc pw = .ok (.baload, 1)) (kk : W p l e R s m args below meth c H locs cells slots Q (F0 m (pw + 1) ls (.int (gg j) :: rest))) : W p l e R s m args below meth c H locs cells slots Q (F0 m pw ls (.int (nI j) :: .ref (a 9) :: rest)) := dt_ldz E h 9 1 rfl rfl hj hdg kk
theorem dt_s1_gg {made : Int32} {hd pc rt par st sz mr nb gg : dt_F} (E : dt_ev p s m args meth c cc nL RX1 rty D [(d, .int), (dz, .boolean)]) (h : dt_hq D A s (dt_w1 d dz h0 a (hd, pc, rt, par, st, sz, mr, nb, made, gg)) H locs) {j : Nat} {x : Int32} (hx : vp_nar .boolean x = x) (hj : j < 16) (hdg : decode cc pw = .ok (.bastore, 1)) (kk : ∀ (H1 : Heap) (locs1 : List Loc), dt_hq D A s (dt_w1 d dz h0 a (hd, pc, rt, par, st, sz, mr, nb, made, upd gg j x)) H1 locs1 → W p l e R s m args below meth c H1 locs1 cells slots Q (F0 m (pw + 1) ls rest)) : W p l e R s m args below meth c H locs cells slots Q (F0 m pw ls (.int x :: .int (nI j) :: .ref (a 9) :: rest)) := dt_stz E h 9 1 rfl rfl hx hj hdg kk
theorem dt_c0i {σ σ' : dt_S0} (E : dt_ev p s m args meth c cc nL RX0 rty D [(d, .int)]) (h : dt_hq D A s (dt_w0 d h0 a σ) H locs) {y : MethodName} {code' : ByteArray} {maxL idx : Nat} {rty' : Option FieldType} {rm : Room} {As : List Value} (M : dt_Ci l y code' maxL rty' rm [(d, .int)] (.ref h0 :: As) (dt_w0 d h0 a σ) (dt_w0 d h0 a σ') r D H.size) (hw : GoodIn lw_all (wsV RX0 idx RX0 y (ws_ y code' maxL rty'))) {nA : Nat} (hnA : As.length = nA) (hd : y.cls = RX0 ∧ y.cls ≠ "java/lang/invoke/MethodHandle" ∧ y.cls ≠ "java/lang/invoke/VarHandle" ∧ (parseMethodDescriptor y.desc).map (fun d => d.parameters.length) = some nA) (hRm : rm.frames + 1 ≤ R.frames ∧ 8 + (maxL + 11) + rm.locals ≤ R.locals) (hrm : rm.cells = 0 ∧ rm.slots = 0) (hsz : ls.size = nL) (hst : st0 = As.reverse ++ .ref h0 :: rest) (hroom : (rest.map fun v => v.category).sum ≤ 8) (hdg : decode cc pw = .ok (.invokevirtual idx, 3)) (hf : cells ≤ R.cells ∧ slots ≤ R.slots)
    (kk : ∀ (H1 : Heap) (locs1 : List Loc), dt_hq D A s (dt_w0 d h0 a σ') H1 locs1 → W p l e R s m args below meth c H1 locs1 cells slots Q (F0 m (pw + 3) ls (.int r :: rest))) : W p l e R s m args below meth c H locs cells slots Q (F0 m pw ls st0) :=
  dt_call_i (wr := []) (ci := 0) E h M [0, 1, 2, 3, 4, 5, 6, 7, 8, 9] [] rfl rfl (by decide) rfl rfl (fun i hi => absurd hi List.not_mem_nil) [0] rfl rfl rfl hw hnA hd hRm hrm hsz hst hroom hdg hf kk
theorem dt_c0v {σ σ' : dt_S0} (E : dt_ev p s m args meth c cc nL RX0 rty D [(d, .int)]) (h : dt_hq D A s (dt_w0 d h0 a σ) H locs) {y : MethodName} {code' : ByteArray} {maxL idx : Nat} {rm : Room} {As : List Value} (M : dt_Cv l y code' maxL rm [(d, .int)] (.ref h0 :: As) (dt_w0 d h0 a σ) (dt_w0 d h0 a σ') D H.size) (hw : GoodIn lw_all (wsV RX0 idx RX0 y (ws_ y code' maxL none))) {nA : Nat} (hnA : As.length = nA) (hd : y.cls = RX0 ∧ y.cls ≠ "java/lang/invoke/MethodHandle" ∧ y.cls ≠ "java/lang/invoke/VarHandle" ∧ (parseMethodDescriptor y.desc).map (fun d => d.parameters.length) = some nA) (hRm : rm.frames + 1 ≤ R.frames ∧ 8 + (maxL + 11) + rm.locals ≤ R.locals) (hrm : rm.cells = 0 ∧ rm.slots = 0) (hsz : ls.size = nL) (hst : st0 = As.reverse ++ .ref h0 :: rest) (hroom : (rest.map fun v => v.category).sum ≤ 8) (hdg : decode cc pw = .ok (.invokevirtual idx, 3)) (hf : cells ≤ R.cells ∧ slots ≤ R.slots)
    (kk : ∀ (H1 : Heap) (locs1 : List Loc), dt_hq D A s (dt_w0 d h0 a σ') H1 locs1 → W p l e R s m args below meth c H1 locs1 cells slots Q (F0 m (pw + 3) ls rest)) : W p l e R s m args below meth c H locs cells slots Q (F0 m pw ls st0) :=
  dt_call_v (wr := []) (ci := 0) E h M [0, 1, 2, 3, 4, 5, 6, 7, 8, 9] [] rfl rfl (by decide) rfl rfl (fun i hi => absurd hi List.not_mem_nil) [0] rfl rfl rfl hw hnA hd hRm hrm hsz hst hroom hdg hf kk
theorem dt_c1i {σ σ' : dt_S1} (E : dt_ev p s m args meth c cc nL RX1 rty D [(d, .int), (dz, .boolean)]) (h : dt_hq D A s (dt_w1 d dz h0 a σ) H locs) {y : MethodName} {code' : ByteArray} {maxL idx : Nat} {rty' : Option FieldType} {rm : Room} {As : List Value} (M : dt_Ci l y code' maxL rty' rm [(d, .int), (dz, .boolean)] (.ref h0 :: As) (dt_w1 d dz h0 a σ) (dt_w1 d dz h0 a σ') r D H.size) (hw : GoodIn lw_all (wsV RX1 idx RX1 y (ws_ y code' maxL rty'))) {nA : Nat} (hnA : As.length = nA) (hd : y.cls = RX1 ∧ y.cls ≠ "java/lang/invoke/MethodHandle" ∧ y.cls ≠ "java/lang/invoke/VarHandle" ∧ (parseMethodDescriptor y.desc).map (fun d => d.parameters.length) = some nA) (hRm : rm.frames + 1 ≤ R.frames ∧ 8 + (maxL + 11) + rm.locals ≤ R.locals) (hrm : rm.cells = 0 ∧ rm.slots = 0) (hsz : ls.size = nL) (hst : st0 = As.reverse ++ .ref h0 :: rest) (hroom : (rest.map fun v => v.category).sum ≤ 8) (hdg : decode cc pw = .ok (.invokevirtual idx, 3)) (hf : cells ≤ R.cells ∧ slots ≤ R.slots)
    (kk : ∀ (H1 : Heap) (locs1 : List Loc), dt_hq D A s (dt_w1 d dz h0 a σ') H1 locs1 → W p l e R s m args below meth c H1 locs1 cells slots Q (F0 m (pw + 3) ls (.int r :: rest))) : W p l e R s m args below meth c H locs cells slots Q (F0 m pw ls st0) :=
  dt_call_i (wr := []) (ci := 1) E h M [0, 1, 2, 3, 4, 5, 6, 7, 8, 9] [] rfl rfl (by decide) rfl rfl (fun i hi => absurd hi List.not_mem_nil) [0, 1] rfl rfl rfl hw hnA hd hRm hrm hsz hst hroom hdg hf kk
theorem dt_c1v {σ σ' : dt_S1} (E : dt_ev p s m args meth c cc nL RX1 rty D [(d, .int), (dz, .boolean)]) (h : dt_hq D A s (dt_w1 d dz h0 a σ) H locs) {y : MethodName} {code' : ByteArray} {maxL idx : Nat} {rm : Room} {As : List Value} (M : dt_Cv l y code' maxL rm [(d, .int), (dz, .boolean)] (.ref h0 :: As) (dt_w1 d dz h0 a σ) (dt_w1 d dz h0 a σ') D H.size) (hw : GoodIn lw_all (wsV RX1 idx RX1 y (ws_ y code' maxL none))) {nA : Nat} (hnA : As.length = nA) (hd : y.cls = RX1 ∧ y.cls ≠ "java/lang/invoke/MethodHandle" ∧ y.cls ≠ "java/lang/invoke/VarHandle" ∧ (parseMethodDescriptor y.desc).map (fun d => d.parameters.length) = some nA) (hRm : rm.frames + 1 ≤ R.frames ∧ 8 + (maxL + 11) + rm.locals ≤ R.locals) (hrm : rm.cells = 0 ∧ rm.slots = 0) (hsz : ls.size = nL) (hst : st0 = As.reverse ++ .ref h0 :: rest) (hroom : (rest.map fun v => v.category).sum ≤ 8) (hdg : decode cc pw = .ok (.invokevirtual idx, 3)) (hf : cells ≤ R.cells ∧ slots ≤ R.slots)
    (kk : ∀ (H1 : Heap) (locs1 : List Loc), dt_hq D A s (dt_w1 d dz h0 a σ') H1 locs1 → W p l e R s m args below meth c H1 locs1 cells slots Q (F0 m (pw + 3) ls rest)) : W p l e R s m args below meth c H locs cells slots Q (F0 m pw ls st0) :=
  dt_call_v (wr := []) (ci := 1) E h M [0, 1, 2, 3, 4, 5, 6, 7, 8, 9] [] rfl rfl (by decide) rfl rfl (fun i hi => absurd hi List.not_mem_nil) [0, 1] rfl rfl rfl hw hnA hd hRm hrm hsz hst hroom hdg hf kk
end DTR
end
section
set_option maxRecDepth 100000

set_option maxHeartbeats 4000000 in
set_option maxRecDepth 100000 in
theorem m0_isHeld (l : Launch) (D : va_G) (d : ClassId) (h0 : Nat) (a : Nat → Nat) (z : Nat) (made : Int32) (n : Nat) (st sz mr kt nb sl dp pc rt : dt_F) (x : Int32)  : dt_Ci l yX0_isHeld cX0_isHeld 2 (some .boolean) (dt_rm 0 0) [(d, .int)] [.ref h0, .int x] (dt_w0 d h0 a (made, n, st, sz, mr, kt, nb, sl, dp, pc, rt)) (dt_w0 d h0 a (made, n, st, sz, mr, kt, nb, sl, dp, pc, rt)) (dt_b (dt_hd pc x)) D z := by
  refine dt_Ci.ofW (own := RX0) (by decide) rfl (Nat.le_of_ble_eq_true rfl) ?_
  intro p e s m below meth c A ls E hu hl
  have hx := E.1
  have hb := E.2.1
  have hl : lv_has ls 2 [(0, .ref h0), (1, .int x)] := hl
  refine lv_iload_n hx hb dX0_isHeld_0 rfl (lv_at hl 1 rfl) ?_
  refine lv_if_lt (tgt := 23) hx hb dX0_isHeld_1 (by decide) (fun c1 => ?_) (fun c1 => ?_)
  · refine lv_iconst (v := dt_b false) hx hb dX0_isHeld_23 (by decide) ?_
    rw [show dt_hd pc x = false from by unfold dt_hd; rw [decide_eq_true c1]; rfl]
    exact dt_rz E hu dX0_isHeld_24
  · refine lv_iload_n hx hb dX0_isHeld_4 rfl (lv_at hl 1 rfl) ?_
    refine lv_bipush (v := 15) hx hb dX0_isHeld_5 (by decide) ?_
    refine lv_icmp_gt (tgt := 23) hx hb dX0_isHeld_7 (by decide) (fun c2 => ?_) (fun c2 => ?_)
    · refine lv_iconst (v := dt_b false) hx hb dX0_isHeld_23 (by decide) ?_
      rw [show dt_hd pc x = false from by unfold dt_hd; rw [decide_eq_false c1, decide_eq_true c2]; rfl]
      exact dt_rz E hu dX0_isHeld_24
    · obtain ⟨j, hj, rfl⟩ := dt_rng.mp ⟨c1, c2⟩
      refine lv_aload_n hx hb dX0_isHeld_10 rfl (lv_at hl 0 rfl) ?_
      refine dt_g0_pc E hu dX0_isHeld_11 ?_
      refine lv_iload_n hx hb dX0_isHeld_14 rfl (lv_at hl 1 rfl) ?_
      refine dt_l0_pc E hu (j := j) hj dX0_isHeld_15 ?_
      refine lv_if_lt (tgt := 23) hx hb dX0_isHeld_16 (by decide) (fun c3 => ?_) (fun c3 => ?_)
      · refine lv_iconst (v := dt_b false) hx hb dX0_isHeld_23 (by decide) ?_
        rw [show dt_hd pc (nI j) = false from by unfold dt_hd; rw [decide_eq_false c1, decide_eq_false c2, nI_clamp (by omega), decide_eq_true c3]; rfl]
        exact dt_rz E hu dX0_isHeld_24
      · refine lv_iconst (v := dt_b true) hx hb dX0_isHeld_19 (by decide) ?_
        refine lv_goto (tgt := 24) hx hb dX0_isHeld_20 (by decide) ?_
        rw [show dt_hd pc (nI j) = true from by unfold dt_hd; rw [decide_eq_false c1, decide_eq_false c2, nI_clamp (by omega), decide_eq_false c3]; rfl]
        exact dt_rz E hu dX0_isHeld_24

section DTK_0_isHeld
variable {p : Program} {l : Launch} {e : Env} {R : Room} {s : State} {m : MethodId} {args : Array Value} {below : List Frame} {meth : Method} {c : Code} {H : Heap} {locs : List Loc} {cells slots : Nat} {Q : State → Prop}
variable {cc : ByteArray} {nL : Nat} {own : String} {rty : Option FieldType} {D : va_G} {A : Nat → Prop} {pw : Nat} {ls : Array Slot} {rest : List Value} {d dz : ClassId} {h0 : Nat} {a : Nat → Nat}
theorem dt_k0_isHeld {made : Int32} {n : Nat} {st sz mr kt nb sl dp pc rt : dt_F} {x : Int32} (E : dt_ev p s m args meth c cc nL RX0 rty D [(d, .int)]) (h : dt_hq D A s (dt_w0 d h0 a (made, n, st, sz, mr, kt, nb, sl, dp, pc, rt)) H locs)  (hR : ((dt_rm 0 0)).frames + 1 ≤ R.frames ∧ 8 + (2 + 11) + ((dt_rm 0 0)).locals ≤ R.locals) (hsz : ls.size = nL) (hroom : (rest.map fun v => v.category).sum ≤ 8) (hf : cells ≤ R.cells ∧ slots ≤ R.slots) (hdg : decode cc pw = .ok (.invokevirtual 44, 3)) (kk : ∀ (H1 : Heap) (locs1 : List Loc), dt_hq D A s (dt_w0 d h0 a (made, n, st, sz, mr, kt, nb, sl, dp, pc, rt)) H1 locs1 → W p l e R s m args below meth c H1 locs1 cells slots Q (F0 m (pw + 3) ls (.int (dt_b (dt_hd pc x)) :: rest))) : W p l e R s m args below meth c H locs cells slots Q (F0 m pw ls (.int x :: .ref h0 :: rest)) :=
  dt_c0i (As := [.int x]) (nA := 1) E h (m0_isHeld l D d h0 a H.size made n st sz mr kt nb sl dp pc rt x) (lw_V q68 q70 qs0 q19 q71) rfl (by decide +kernel) hR ⟨rfl, rfl⟩ hsz rfl hroom hdg hf kk
end DTK_0_isHeld

set_option maxHeartbeats 4000000 in
set_option maxRecDepth 100000 in
theorem m0_isFree (l : Launch) (D : va_G) (d : ClassId) (h0 : Nat) (a : Nat → Nat) (z : Nat) (made : Int32) (n : Nat) (st sz mr kt nb sl dp pc rt : dt_F) (x : Int32)  : dt_Ci l yX0_isFree cX0_isFree 2 (some .boolean) (dt_rm 0 0) [(d, .int)] [.ref h0, .int x] (dt_w0 d h0 a (made, n, st, sz, mr, kt, nb, sl, dp, pc, rt)) (dt_w0 d h0 a (made, n, st, sz, mr, kt, nb, sl, dp, pc, rt)) (dt_b (dt_fr pc x)) D z := by
  refine dt_Ci.ofW (own := RX0) (by decide) rfl (Nat.le_of_ble_eq_true rfl) ?_
  intro p e s m below meth c A ls E hu hl
  have hx := E.1
  have hb := E.2.1
  have hl : lv_has ls 2 [(0, .ref h0), (1, .int x)] := hl
  refine lv_iload_n hx hb dX0_isFree_0 rfl (lv_at hl 1 rfl) ?_
  refine lv_if_lt (tgt := 23) hx hb dX0_isFree_1 (by decide) (fun c1 => ?_) (fun c1 => ?_)
  · refine lv_iconst (v := dt_b false) hx hb dX0_isFree_23 (by decide) ?_
    rw [show dt_fr pc x = false from by unfold dt_fr; rw [decide_eq_true c1]; rfl]
    exact dt_rz E hu dX0_isFree_24
  · refine lv_iload_n hx hb dX0_isFree_4 rfl (lv_at hl 1 rfl) ?_
    refine lv_bipush (v := 15) hx hb dX0_isFree_5 (by decide) ?_
    refine lv_icmp_gt (tgt := 23) hx hb dX0_isFree_7 (by decide) (fun c2 => ?_) (fun c2 => ?_)
    · refine lv_iconst (v := dt_b false) hx hb dX0_isFree_23 (by decide) ?_
      rw [show dt_fr pc x = false from by unfold dt_fr; rw [decide_eq_false c1, decide_eq_true c2]; rfl]
      exact dt_rz E hu dX0_isFree_24
    · obtain ⟨j, hj, rfl⟩ := dt_rng.mp ⟨c1, c2⟩
      refine lv_aload_n hx hb dX0_isFree_10 rfl (lv_at hl 0 rfl) ?_
      refine dt_g0_pc E hu dX0_isFree_11 ?_
      refine lv_iload_n hx hb dX0_isFree_14 rfl (lv_at hl 1 rfl) ?_
      refine dt_l0_pc E hu (j := j) hj dX0_isFree_15 ?_
      refine lv_if_ge (tgt := 23) hx hb dX0_isFree_16 (by decide) (fun c3 => ?_) (fun c3 => ?_)
      · refine lv_iconst (v := dt_b false) hx hb dX0_isFree_23 (by decide) ?_
        rw [show dt_fr pc (nI j) = false from by unfold dt_fr; rw [decide_eq_false c1, decide_eq_false c2, nI_clamp (by omega), decide_eq_false (Int32.not_lt.mpr c3)]; rfl]
        exact dt_rz E hu dX0_isFree_24
      · refine lv_iconst (v := dt_b true) hx hb dX0_isFree_19 (by decide) ?_
        refine lv_goto (tgt := 24) hx hb dX0_isFree_20 (by decide) ?_
        rw [show dt_fr pc (nI j) = true from by unfold dt_fr; rw [decide_eq_false c1, decide_eq_false c2, nI_clamp (by omega), decide_eq_true (Int32.not_le.mp c3)]; rfl]
        exact dt_rz E hu dX0_isFree_24

section DTK_0_isFree
variable {p : Program} {l : Launch} {e : Env} {R : Room} {s : State} {m : MethodId} {args : Array Value} {below : List Frame} {meth : Method} {c : Code} {H : Heap} {locs : List Loc} {cells slots : Nat} {Q : State → Prop}
variable {cc : ByteArray} {nL : Nat} {own : String} {rty : Option FieldType} {D : va_G} {A : Nat → Prop} {pw : Nat} {ls : Array Slot} {rest : List Value} {d dz : ClassId} {h0 : Nat} {a : Nat → Nat}
theorem dt_k0_isFree {made : Int32} {n : Nat} {st sz mr kt nb sl dp pc rt : dt_F} {x : Int32} (E : dt_ev p s m args meth c cc nL RX0 rty D [(d, .int)]) (h : dt_hq D A s (dt_w0 d h0 a (made, n, st, sz, mr, kt, nb, sl, dp, pc, rt)) H locs)  (hR : ((dt_rm 0 0)).frames + 1 ≤ R.frames ∧ 8 + (2 + 11) + ((dt_rm 0 0)).locals ≤ R.locals) (hsz : ls.size = nL) (hroom : (rest.map fun v => v.category).sum ≤ 8) (hf : cells ≤ R.cells ∧ slots ≤ R.slots) (hdg : decode cc pw = .ok (.invokevirtual 48, 3)) (kk : ∀ (H1 : Heap) (locs1 : List Loc), dt_hq D A s (dt_w0 d h0 a (made, n, st, sz, mr, kt, nb, sl, dp, pc, rt)) H1 locs1 → W p l e R s m args below meth c H1 locs1 cells slots Q (F0 m (pw + 3) ls (.int (dt_b (dt_fr pc x)) :: rest))) : W p l e R s m args below meth c H locs cells slots Q (F0 m pw ls (.int x :: .ref h0 :: rest)) :=
  dt_c0i (As := [.int x]) (nA := 1) E h (m0_isFree l D d h0 a H.size made n st sz mr kt nb sl dp pc rt x) (lw_V q72 q74 qs1 q19 q75) rfl (by decide +kernel) hR ⟨rfl, rfl⟩ hsz rfl hroom hdg hf kk
end DTK_0_isFree

set_option maxHeartbeats 4000000 in
set_option maxRecDepth 100000 in
theorem m0_placeOf (l : Launch) (D : va_G) (d : ClassId) (h0 : Nat) (a : Nat → Nat) (z : Nat) (made : Int32) (n : Nat) (st sz mr kt nb sl dp pc rt : dt_F) (x : Int32) (hn : n ≤ 16) : dt_Ci l yX0_placeOf cX0_placeOf 4 (some .int) (dt_rm 0 0) [(d, .int)] [.ref h0, .int x] (dt_w0 d h0 a (made, n, st, sz, mr, kt, nb, sl, dp, pc, rt)) (dt_w0 d h0 a (made, n, st, sz, mr, kt, nb, sl, dp, pc, rt)) (nI (dt_plc sl x n)) D z := by
  refine dt_Ci.ofW (own := RX0) (by decide) rfl (Nat.le_of_ble_eq_true rfl) ?_
  intro p e s m below meth c A ls E hu hl
  have hx := E.1
  have hb := E.2.1
  have hl : lv_has ls 4 [(0, .ref h0), (1, .int x)] := hl
  refine lv_iconst (v := nI 0) hx hb dX0_placeOf_0 (by decide) ?_
  refine lv_istore_n (lv' := [(2, .int (nI 0)), (0, .ref h0), (1, .int x)]) hx hb dX0_placeOf_1 rfl hl (by decide) rfl (fun ls hl => ?_)
  refine lv_iconst (v := nI 0) hx hb dX0_placeOf_2 (by decide) ?_
  refine lv_istore_n (lv' := [(3, .int (nI 0)), (2, .int (nI 0)), (0, .ref h0), (1, .int x)]) hx hb dX0_placeOf_3 rfl hl (by decide) rfl (fun ls hl => ?_)
  have lp : ∀ (dd : Nat) (k : Nat), k + dd = n → ∀ (ls : Array Slot), lv_has ls 4 [(0, .ref h0), (1, .int x), (2, .int (nI (dt_plc sl x k))), (3, .int (nI k))] → W p l e (dt_rm 0 0) s m ([.ref h0, .int x] : List Value).toArray below meth c s.heap [] 0 0 (MQ below (dt_QI [(d, .int)] (dt_w0 d h0 a (made, n, st, sz, mr, kt, nb, sl, dp, pc, rt)) (nI (dt_plc sl x n)) D A) ([.ref h0, .int x] : List Value).toArray s 0 0 A) (F0 m 4 ls []) := by
    intro dd
    induction dd with
    | zero =>
      intro k hk ls hl
      have ek : k = n := by omega
      refine lv_iload_n hx hb dX0_placeOf_4 rfl (lv_at hl 3 rfl) ?_
      refine lv_aload_n hx hb dX0_placeOf_5 rfl (lv_at hl 0 rfl) ?_
      refine dt_g0_n E hu dX0_placeOf_6 ?_
      refine lv_icmp_ge (tgt := 34) hx hb dX0_placeOf_9 (by decide) (fun c1 => ?_) (fun c1 => absurd (by rw [ek]; exact Int32.le_refl _) c1)
      rw [ek] at hl
      refine lv_iload_n hx hb dX0_placeOf_34 rfl (lv_at hl 2 rfl) ?_
      exact dt_ri E hu dX0_placeOf_35
    | succ dd ih =>
      intro k hk ls hl
      refine lv_iload_n hx hb dX0_placeOf_4 rfl (lv_at hl 3 rfl) ?_
      refine lv_aload_n hx hb dX0_placeOf_5 rfl (lv_at hl 0 rfl) ?_
      refine dt_g0_n E hu dX0_placeOf_6 ?_
      refine lv_icmp_ge (tgt := 34) hx hb dX0_placeOf_9 (by decide) (fun c1 => absurd c1 (nI_ge (by omega) (by omega))) (fun c1 => ?_)
      refine lv_aload_n hx hb dX0_placeOf_12 rfl (lv_at hl 0 rfl) ?_
      refine dt_g0_sl E hu dX0_placeOf_13 ?_
      refine lv_iload_n hx hb dX0_placeOf_16 rfl (lv_at hl 3 rfl) ?_
      refine dt_l0_sl E hu (j := k) (by omega) dX0_placeOf_17 ?_
      refine lv_iload_n hx hb dX0_placeOf_18 rfl (lv_at hl 1 rfl) ?_
      refine lv_icmp_ne (tgt := 26) hx hb dX0_placeOf_19 (by decide) (fun c2 => ?_) (fun c2 => ?_)
      · refine lv_iload_n hx hb dX0_placeOf_26 rfl (lv_at hl 2 rfl) ?_
        refine lv_istore_n (lv' := [(2, .int (nI (dt_plc sl x k))), (0, .ref h0), (1, .int x), (3, .int (nI k))]) hx hb dX0_placeOf_27 rfl hl (by decide) rfl (fun ls hl => ?_)
        refine lv_iinc (v := nI (k + 1)) (lv' := [(3, .int (nI (k + 1))), (2, .int (nI (dt_plc sl x k))), (0, .ref h0), (1, .int x)]) hx hb dX0_placeOf_28 hl (k := 3) rfl (dt_inc _) (by decide) rfl (fun ls hl => ?_)
        refine lv_goto (tgt := 4) hx hb dX0_placeOf_31 (by decide) ?_
        exact ih (k + 1) (by omega) ls (by rw [show dt_plc sl x (k + 1) = dt_plc sl x k from if_neg c2]; exact lv_sub hl [2, 3, 1, 0] rfl)
      · refine lv_iload_n hx hb dX0_placeOf_22 rfl (lv_at hl 3 rfl) ?_
        refine lv_goto (tgt := 27) hx hb dX0_placeOf_23 (by decide) ?_
        refine lv_istore_n (lv' := [(2, .int (nI k)), (0, .ref h0), (1, .int x), (3, .int (nI k))]) hx hb dX0_placeOf_27 rfl hl (by decide) rfl (fun ls hl => ?_)
        refine lv_iinc (v := nI (k + 1)) (lv' := [(3, .int (nI (k + 1))), (2, .int (nI k)), (0, .ref h0), (1, .int x)]) hx hb dX0_placeOf_28 hl (k := 3) rfl (dt_inc _) (by decide) rfl (fun ls hl => ?_)
        refine lv_goto (tgt := 4) hx hb dX0_placeOf_31 (by decide) ?_
        exact ih (k + 1) (by omega) ls (by rw [show dt_plc sl x (k + 1) = k from if_pos c2]; exact lv_sub hl [2, 3, 1, 0] rfl)
  exact lp n 0 (by omega) ls (lv_sub hl [2, 3, 1, 0] rfl)

section DTK_0_placeOf
variable {p : Program} {l : Launch} {e : Env} {R : Room} {s : State} {m : MethodId} {args : Array Value} {below : List Frame} {meth : Method} {c : Code} {H : Heap} {locs : List Loc} {cells slots : Nat} {Q : State → Prop}
variable {cc : ByteArray} {nL : Nat} {own : String} {rty : Option FieldType} {D : va_G} {A : Nat → Prop} {pw : Nat} {ls : Array Slot} {rest : List Value} {d dz : ClassId} {h0 : Nat} {a : Nat → Nat}
theorem dt_k0_placeOf {made : Int32} {n : Nat} {st sz mr kt nb sl dp pc rt : dt_F} {x : Int32} (E : dt_ev p s m args meth c cc nL RX0 rty D [(d, .int)]) (h : dt_hq D A s (dt_w0 d h0 a (made, n, st, sz, mr, kt, nb, sl, dp, pc, rt)) H locs) (hn : n ≤ 16) (hR : ((dt_rm 0 0)).frames + 1 ≤ R.frames ∧ 8 + (4 + 11) + ((dt_rm 0 0)).locals ≤ R.locals) (hsz : ls.size = nL) (hroom : (rest.map fun v => v.category).sum ≤ 8) (hf : cells ≤ R.cells ∧ slots ≤ R.slots) (hdg : decode cc pw = .ok (.invokevirtual 59, 3)) (kk : ∀ (H1 : Heap) (locs1 : List Loc), dt_hq D A s (dt_w0 d h0 a (made, n, st, sz, mr, kt, nb, sl, dp, pc, rt)) H1 locs1 → W p l e R s m args below meth c H1 locs1 cells slots Q (F0 m (pw + 3) ls (.int (nI (dt_plc sl x n)) :: rest))) : W p l e R s m args below meth c H locs cells slots Q (F0 m pw ls (.int x :: .ref h0 :: rest)) :=
  dt_c0i (As := [.int x]) (nA := 1) E h (m0_placeOf l D d h0 a H.size made n st sz mr kt nb sl dp pc rt x hn) (lw_V q84 q86 qs4 q19 q87) rfl (by decide +kernel) hR ⟨rfl, rfl⟩ hsz rfl hroom hdg hf kk
end DTK_0_placeOf

set_option maxHeartbeats 4000000 in
set_option maxRecDepth 100000 in
theorem m0_endOfPart (l : Launch) (D : va_G) (d : ClassId) (h0 : Nat) (a : Nat → Nat) (z : Nat) (made : Int32) (n : Nat) (st sz mr kt nb sl dp pc rt : dt_F) (i : Nat) (hi : i < n) (hn : n ≤ 16) : dt_Ci l yX0_endOfPart cX0_endOfPart 4 (some .int) (dt_rm 0 0) [(d, .int)] [.ref h0, .int (nI i)] (dt_w0 d h0 a (made, n, st, sz, mr, kt, nb, sl, dp, pc, rt)) (dt_w0 d h0 a (made, n, st, sz, mr, kt, nb, sl, dp, pc, rt)) (nI (dt_end dp n i)) D z := by
  refine dt_Ci.ofW (own := RX0) (by decide) rfl (Nat.le_of_ble_eq_true rfl) ?_
  intro p e s m below meth c A ls E hu hl
  have hx := E.1
  have hb := E.2.1
  have hl : lv_has ls 4 [(0, .ref h0), (1, .int (nI i))] := hl
  refine lv_iload_n hx hb dX0_endOfPart_0 rfl (lv_at hl 1 rfl) ?_
  refine lv_iconst (v := 1) hx hb dX0_endOfPart_1 (by decide) ?_
  refine lv_iadd hx hb dX0_endOfPart_2 ?_
  refine dt_tp (show nI i + 1 = nI (i + 1) from nI_1 _) ?_
  refine lv_istore_n (lv' := [(2, .int (nI (i + 1))), (0, .ref h0), (1, .int (nI i))]) hx hb dX0_endOfPart_3 rfl hl (by decide) rfl (fun ls hl => ?_)
  refine lv_iload_n hx hb dX0_endOfPart_4 rfl (lv_at hl 2 rfl) ?_
  refine lv_iconst (v := 1) hx hb dX0_endOfPart_5 (by decide) ?_
  refine lv_iadd hx hb dX0_endOfPart_6 ?_
  refine dt_tp (show nI i + 1 = nI (i + 1) from nI_1 _) ?_
  refine lv_istore_n (lv' := [(3, .int (nI (i + 1))), (2, .int (nI (i + 1))), (0, .ref h0), (1, .int (nI i))]) hx hb dX0_endOfPart_7 rfl hl (by decide) rfl (fun ls hl => ?_)
  have lp : ∀ (dd : Nat) (u : Nat), i + 1 + u + dd = n → ∀ (ls : Array Slot), lv_has ls 4 [(0, .ref h0), (1, .int (nI i)), (2, .int (nI (dt_eop dp i u))), (3, .int (nI (i + 1 + u)))] → W p l e (dt_rm 0 0) s m ([.ref h0, .int (nI i)] : List Value).toArray below meth c s.heap [] 0 0 (MQ below (dt_QI [(d, .int)] (dt_w0 d h0 a (made, n, st, sz, mr, kt, nb, sl, dp, pc, rt)) (nI (dt_end dp n i)) D A) ([.ref h0, .int (nI i)] : List Value).toArray s 0 0 A) (F0 m 8 ls []) := by
    intro dd
    induction dd with
    | zero =>
      intro u hk ls hl
      refine lv_iload_n hx hb dX0_endOfPart_8 rfl (lv_at hl 3 rfl) ?_
      refine lv_aload_n hx hb dX0_endOfPart_9 rfl (lv_at hl 0 rfl) ?_
      refine dt_g0_n E hu dX0_endOfPart_10 ?_
      refine lv_icmp_ge (tgt := 46) hx hb dX0_endOfPart_13 (by decide) (fun c1 => ?_) (fun c1 => absurd (nI_le (by omega) (by omega)) c1)
      rw [show dt_eop dp i u = dt_end dp n i from by unfold dt_end; rw [show n - (i + 1) = u by omega]] at hl
      refine lv_iload_n hx hb dX0_endOfPart_46 rfl (lv_at hl 2 rfl) ?_
      exact dt_ri E hu dX0_endOfPart_47
    | succ dd ih =>
      intro u hk ls hl
      have hle := dt_eop_le dp i u
      refine lv_iload_n hx hb dX0_endOfPart_8 rfl (lv_at hl 3 rfl) ?_
      refine lv_aload_n hx hb dX0_endOfPart_9 rfl (lv_at hl 0 rfl) ?_
      refine dt_g0_n E hu dX0_endOfPart_10 ?_
      refine lv_icmp_ge (tgt := 46) hx hb dX0_endOfPart_13 (by decide) (fun c1 => absurd c1 (nI_ge (by omega) (by omega))) (fun c1 => ?_)
      refine lv_iload_n hx hb dX0_endOfPart_16 rfl (lv_at hl 2 rfl) ?_
      refine lv_iload_n hx hb dX0_endOfPart_17 rfl (lv_at hl 3 rfl) ?_
      refine lv_icmp_ne (tgt := 40) hx hb dX0_endOfPart_18 (by decide) (fun c2 => ?_) (fun c2 => ?_)
      · refine lv_iinc (v := nI (i + 1 + u + 1)) (lv' := [(3, .int (nI (i + 1 + u + 1))), (0, .ref h0), (1, .int (nI i)), (2, .int (nI (dt_eop dp i u)))]) hx hb dX0_endOfPart_40 hl (k := 3) rfl (dt_inc _) (by decide) rfl (fun ls hl => ?_)
        refine lv_goto (tgt := 8) hx hb dX0_endOfPart_43 (by decide) ?_
        exact ih (u + 1) (by omega) ls (by rw [show dt_eop dp i (u + 1) = dt_eop dp i u from if_neg (fun q => c2 (by rw [q.1]))]; exact lv_sub hl [1, 2, 3, 0] rfl)
      · have c2 := (nI_eq (by omega) (by omega)).mp c2
        refine lv_aload_n hx hb dX0_endOfPart_21 rfl (lv_at hl 0 rfl) ?_
        refine dt_g0_dp E hu dX0_endOfPart_22 ?_
        refine lv_iload_n hx hb dX0_endOfPart_25 rfl (lv_at hl 3 rfl) ?_
        refine dt_l0_dp E hu (j := i + 1 + u) (by omega) dX0_endOfPart_26 ?_
        refine lv_aload_n hx hb dX0_endOfPart_27 rfl (lv_at hl 0 rfl) ?_
        refine dt_g0_dp E hu dX0_endOfPart_28 ?_
        refine lv_iload_n hx hb dX0_endOfPart_31 rfl (lv_at hl 1 rfl) ?_
        refine dt_l0_dp E hu (j := i) (by omega) dX0_endOfPart_32 ?_
        refine lv_icmp_le (tgt := 40) hx hb dX0_endOfPart_33 (by decide) (fun c3 => ?_) (fun c3 => ?_)
        · refine lv_iinc (v := nI (i + 1 + u + 1)) (lv' := [(3, .int (nI (i + 1 + u + 1))), (0, .ref h0), (1, .int (nI i)), (2, .int (nI (dt_eop dp i u)))]) hx hb dX0_endOfPart_40 hl (k := 3) rfl (dt_inc _) (by decide) rfl (fun ls hl => ?_)
          refine lv_goto (tgt := 8) hx hb dX0_endOfPart_43 (by decide) ?_
          exact ih (u + 1) (by omega) ls (by rw [show dt_eop dp i (u + 1) = dt_eop dp i u from if_neg (fun q => Int32.not_lt.mpr c3 q.2)]; exact lv_sub hl [1, 2, 3, 0] rfl)
        · refine lv_iload_n hx hb dX0_endOfPart_36 rfl (lv_at hl 3 rfl) ?_
          refine lv_iconst (v := 1) hx hb dX0_endOfPart_37 (by decide) ?_
          refine lv_iadd hx hb dX0_endOfPart_38 ?_
          refine dt_tp (show nI (i + 1 + u) + 1 = nI (i + 1 + u + 1) from nI_1 _) ?_
          refine lv_istore_n (lv' := [(2, .int (nI (i + 1 + u + 1))), (0, .ref h0), (1, .int (nI i)), (3, .int (nI (i + 1 + u)))]) hx hb dX0_endOfPart_39 rfl hl (by decide) rfl (fun ls hl => ?_)
          refine lv_iinc (v := nI (i + 1 + u + 1)) (lv' := [(3, .int (nI (i + 1 + u + 1))), (2, .int (nI (i + 1 + u + 1))), (0, .ref h0), (1, .int (nI i))]) hx hb dX0_endOfPart_40 hl (k := 3) rfl (dt_inc _) (by decide) rfl (fun ls hl => ?_)
          refine lv_goto (tgt := 8) hx hb dX0_endOfPart_43 (by decide) ?_
          exact ih (u + 1) (by omega) ls (by rw [show dt_eop dp i (u + 1) = i + 1 + u + 1 from if_pos ⟨c2, Int32.not_le.mp c3⟩]; exact lv_sub hl [2, 3, 1, 0] rfl)
  exact lp (n - (i + 1)) 0 (by omega) ls (lv_sub hl [2, 3, 1, 0] rfl)

section DTK_0_endOfPart
variable {p : Program} {l : Launch} {e : Env} {R : Room} {s : State} {m : MethodId} {args : Array Value} {below : List Frame} {meth : Method} {c : Code} {H : Heap} {locs : List Loc} {cells slots : Nat} {Q : State → Prop}
variable {cc : ByteArray} {nL : Nat} {own : String} {rty : Option FieldType} {D : va_G} {A : Nat → Prop} {pw : Nat} {ls : Array Slot} {rest : List Value} {d dz : ClassId} {h0 : Nat} {a : Nat → Nat}
theorem dt_k0_endOfPart {made : Int32} {n : Nat} {st sz mr kt nb sl dp pc rt : dt_F} {i : Nat} (E : dt_ev p s m args meth c cc nL RX0 rty D [(d, .int)]) (h : dt_hq D A s (dt_w0 d h0 a (made, n, st, sz, mr, kt, nb, sl, dp, pc, rt)) H locs) (hi : i < n) (hn : n ≤ 16) (hR : ((dt_rm 0 0)).frames + 1 ≤ R.frames ∧ 8 + (4 + 11) + ((dt_rm 0 0)).locals ≤ R.locals) (hsz : ls.size = nL) (hroom : (rest.map fun v => v.category).sum ≤ 8) (hf : cells ≤ R.cells ∧ slots ≤ R.slots) (hdg : decode cc pw = .ok (.invokevirtual 63, 3)) (kk : ∀ (H1 : Heap) (locs1 : List Loc), dt_hq D A s (dt_w0 d h0 a (made, n, st, sz, mr, kt, nb, sl, dp, pc, rt)) H1 locs1 → W p l e R s m args below meth c H1 locs1 cells slots Q (F0 m (pw + 3) ls (.int (nI (dt_end dp n i)) :: rest))) : W p l e R s m args below meth c H locs cells slots Q (F0 m pw ls (.int (nI i) :: .ref h0 :: rest)) :=
  dt_c0i (As := [.int (nI i)]) (nA := 1) E h (m0_endOfPart l D d h0 a H.size made n st sz mr kt nb sl dp pc rt i hi hn) (lw_V q100 q102 qs5 q19 q103) rfl (by decide +kernel) hR ⟨rfl, rfl⟩ hsz rfl hroom hdg hf kk
end DTK_0_endOfPart

set_option maxHeartbeats 4000000 in
set_option maxRecDepth 100000 in
theorem m0_forgetKey (l : Launch) (D : va_G) (d : ClassId) (h0 : Nat) (a : Nat → Nat) (z : Nat) (made : Int32) (n : Nat) (st sz mr kt nb sl dp pc rt : dt_F) (sv qv : Nat) (hs : sv < 16) (hq : qv < 16) (hp : pc sv = nI qv) : dt_Cv l yX0_forgetKey cX0_forgetKey 2 (dt_rm 0 0) [(d, .int)] [.ref h0, .int (nI sv)] (dt_w0 d h0 a (made, n, st, sz, mr, kt, nb, sl, dp, pc, rt)) (dt_w0 d h0 a (made, n, st, sz, mr, upd kt qv (kt qv - 1), nb, sl, dp, upd pc sv (-1), rt)) D z := by
  refine dt_Cv.ofW (own := RX0) (by decide) rfl (Nat.le_of_ble_eq_true rfl) ?_
  intro p e s m below meth c A ls E hu hl
  have hx := E.1
  have hb := E.2.1
  have hl : lv_has ls 2 [(0, .ref h0), (1, .int (nI sv))] := hl
  refine lv_aload_n hx hb dX0_forgetKey_0 rfl (lv_at hl 0 rfl) ?_
  refine dt_g0_kt E hu dX0_forgetKey_1 ?_
  refine lv_aload_n hx hb dX0_forgetKey_4 rfl (lv_at hl 0 rfl) ?_
  refine dt_g0_pc E hu dX0_forgetKey_5 ?_
  refine lv_iload_n hx hb dX0_forgetKey_8 rfl (lv_at hl 1 rfl) ?_
  refine dt_l0_pc E hu (j := sv) (by omega) dX0_forgetKey_9 ?_
  refine dt_tp (show pc sv = nI qv from hp) ?_
  refine lv_dup2_11 hx hb dX0_forgetKey_10 rfl rfl ?_
  refine dt_l0_kt E hu (j := qv) (by omega) dX0_forgetKey_11 ?_
  refine lv_iconst (v := 1) hx hb dX0_forgetKey_12 (by decide) ?_
  refine lv_isub hx hb dX0_forgetKey_13 ?_
  refine dt_s0_kt E hu (j := qv) (x := (kt qv) - 1) (by omega) dX0_forgetKey_14 (fun H locs hu => ?_)
  refine lv_aload_n hx hb dX0_forgetKey_15 rfl (lv_at hl 0 rfl) ?_
  refine dt_g0_pc E hu dX0_forgetKey_16 ?_
  refine lv_iload_n hx hb dX0_forgetKey_19 rfl (lv_at hl 1 rfl) ?_
  refine lv_iconst (v := (-1)) hx hb dX0_forgetKey_20 (by decide) ?_
  refine dt_s0_pc E hu (j := sv) (x := -1) (by omega) dX0_forgetKey_21 (fun H locs hu => ?_)
  exact dt_rv E hu dX0_forgetKey_22

section DTK_0_forgetKey
variable {p : Program} {l : Launch} {e : Env} {R : Room} {s : State} {m : MethodId} {args : Array Value} {below : List Frame} {meth : Method} {c : Code} {H : Heap} {locs : List Loc} {cells slots : Nat} {Q : State → Prop}
variable {cc : ByteArray} {nL : Nat} {own : String} {rty : Option FieldType} {D : va_G} {A : Nat → Prop} {pw : Nat} {ls : Array Slot} {rest : List Value} {d dz : ClassId} {h0 : Nat} {a : Nat → Nat}
theorem dt_k0_forgetKey {made : Int32} {n : Nat} {st sz mr kt nb sl dp pc rt : dt_F} {sv qv : Nat} (E : dt_ev p s m args meth c cc nL RX0 rty D [(d, .int)]) (h : dt_hq D A s (dt_w0 d h0 a (made, n, st, sz, mr, kt, nb, sl, dp, pc, rt)) H locs) (hs : sv < 16) (hq : qv < 16) (hp : pc sv = nI qv) (hR : ((dt_rm 0 0)).frames + 1 ≤ R.frames ∧ 8 + (2 + 11) + ((dt_rm 0 0)).locals ≤ R.locals) (hsz : ls.size = nL) (hroom : (rest.map fun v => v.category).sum ≤ 8) (hf : cells ≤ R.cells ∧ slots ≤ R.slots) (hdg : decode cc pw = .ok (.invokevirtual 66, 3)) (kk : ∀ (H1 : Heap) (locs1 : List Loc), dt_hq D A s (dt_w0 d h0 a (made, n, st, sz, mr, upd kt qv (kt qv - 1), nb, sl, dp, upd pc sv (-1), rt)) H1 locs1 → W p l e R s m args below meth c H1 locs1 cells slots Q (F0 m (pw + 3) ls rest)) : W p l e R s m args below meth c H locs cells slots Q (F0 m pw ls (.int (nI sv) :: .ref h0 :: rest)) :=
  dt_c0v (As := [.int (nI sv)]) (nA := 1) E h (m0_forgetKey l D d h0 a H.size made n st sz mr kt nb sl dp pc rt sv qv hs hq hp) (lw_V q104 q106 qs6 q19 q107) rfl (by decide +kernel) hR ⟨rfl, rfl⟩ hsz rfl hroom hdg hf kk
end DTK_0_forgetKey

set_option maxHeartbeats 4000000 in
set_option maxRecDepth 100000 in
theorem m0_freePiece (l : Launch) (D : va_G) (d : ClassId) (h0 : Nat) (a : Nat → Nat) (z : Nat) (made : Int32) (n : Nat) (st sz mr kt nb sl dp pc rt : dt_F)   : dt_Ci l yX0_freePiece cX0_freePiece 3 (some .int) (dt_rm 0 0) [(d, .int)] [.ref h0] (dt_w0 d h0 a (made, n, st, sz, mr, kt, nb, sl, dp, pc, rt)) (dt_w0 d h0 a (made, n, st, sz, mr, kt, nb, sl, dp, pc, rt)) (nI (dt_fpc kt 16 0)) D z := by
  refine dt_Ci.ofW (own := RX0) (by decide) rfl (Nat.le_of_ble_eq_true rfl) ?_
  intro p e s m below meth c A ls E hu hl
  have hx := E.1
  have hb := E.2.1
  have hl : lv_has ls 3 [(0, .ref h0)] := hl
  refine lv_iconst (v := nI 0) hx hb dX0_freePiece_0 (by decide) ?_
  refine lv_istore_n (lv' := [(1, .int (nI 0)), (0, .ref h0)]) hx hb dX0_freePiece_1 rfl hl (by decide) rfl (fun ls hl => ?_)
  refine lv_bipush (v := nI 15) hx hb dX0_freePiece_2 (by decide) ?_
  refine lv_istore_n (lv' := [(2, .int (nI 15)), (1, .int (nI 0)), (0, .ref h0)]) hx hb dX0_freePiece_4 rfl hl (by decide) rfl (fun ls hl => ?_)
  have lp : ∀ (dd : Nat) (f : Nat), dd ≤ 16 → dt_fpc kt dd f = dt_fpc kt 16 0 → ∀ (ls : Array Slot), lv_has ls 3 [(0, .ref h0), (1, .int (nI f)), (2, .int (dt_dm dd))] → W p l e (dt_rm 0 0) s m ([.ref h0] : List Value).toArray below meth c s.heap [] 0 0 (MQ below (dt_QI [(d, .int)] (dt_w0 d h0 a (made, n, st, sz, mr, kt, nb, sl, dp, pc, rt)) (nI (dt_fpc kt 16 0)) D A) ([.ref h0] : List Value).toArray s 0 0 A) (F0 m 5 ls []) := by
    intro dd
    induction dd with
    | zero =>
      intro f hd0 hf ls hl
      refine lv_iload_n hx hb dX0_freePiece_5 rfl (lv_at hl 2 rfl) ?_
      refine lv_if_lt (tgt := 30) hx hb dX0_freePiece_6 (by decide) (fun c1 => ?_) (fun c1 => absurd (by decide) c1)
      rw [← hf]
      refine lv_iload_n hx hb dX0_freePiece_30 rfl (lv_at hl 1 rfl) ?_
      exact dt_ri E hu dX0_freePiece_31
    | succ dd ih =>
      intro f hd0 hf ls hl
      have hl : lv_has ls 3 [(0, .ref h0), (1, .int (nI f)), (2, .int (nI dd))] := hl
      refine lv_iload_n hx hb dX0_freePiece_5 rfl (lv_at hl 2 rfl) ?_
      refine lv_if_lt (tgt := 30) hx hb dX0_freePiece_6 (by decide) (fun c1 => absurd c1 (nI_pos (by omega))) (fun c1 => ?_)
      refine lv_aload_n hx hb dX0_freePiece_9 rfl (lv_at hl 0 rfl) ?_
      refine dt_g0_kt E hu dX0_freePiece_10 ?_
      refine lv_iload_n hx hb dX0_freePiece_13 rfl (lv_at hl 2 rfl) ?_
      refine dt_l0_kt E hu (j := dd) (by omega) dX0_freePiece_14 ?_
      refine lv_if_ne (tgt := 22) hx hb dX0_freePiece_15 (by decide) (fun c2 => ?_) (fun c2 => ?_)
      · refine lv_iload_n hx hb dX0_freePiece_22 rfl (lv_at hl 1 rfl) ?_
        refine lv_istore_n (lv' := [(1, .int (nI f)), (0, .ref h0), (2, .int (nI dd))]) hx hb dX0_freePiece_23 rfl hl (by decide) rfl (fun ls hl => ?_)
        refine lv_iinc (v := dt_dm dd) (lv' := [(2, .int (dt_dm dd)), (1, .int (nI f)), (0, .ref h0)]) hx hb dX0_freePiece_24 hl (k := 2) rfl (dt_dec _) (by decide) rfl (fun ls hl => ?_)
        refine lv_goto (tgt := 5) hx hb dX0_freePiece_27 (by decide) ?_
        exact ih f (by omega) (by rw [← hf]; show _ = dt_fpc kt dd (if kt dd = 0 then dd else f); rw [if_neg c2]) ls (lv_sub hl [2, 1, 0] rfl)
      · refine lv_iload_n hx hb dX0_freePiece_18 rfl (lv_at hl 2 rfl) ?_
        refine lv_goto (tgt := 23) hx hb dX0_freePiece_19 (by decide) ?_
        refine lv_istore_n (lv' := [(1, .int (nI dd)), (0, .ref h0), (2, .int (nI dd))]) hx hb dX0_freePiece_23 rfl hl (by decide) rfl (fun ls hl => ?_)
        refine lv_iinc (v := dt_dm dd) (lv' := [(2, .int (dt_dm dd)), (1, .int (nI dd)), (0, .ref h0)]) hx hb dX0_freePiece_24 hl (k := 2) rfl (dt_dec _) (by decide) rfl (fun ls hl => ?_)
        refine lv_goto (tgt := 5) hx hb dX0_freePiece_27 (by decide) ?_
        exact ih dd (by omega) (by rw [← hf]; show _ = dt_fpc kt dd (if kt dd = 0 then dd else f); rw [if_pos c2]) ls (lv_sub hl [2, 1, 0] rfl)
  exact lp 16 0 (by omega) rfl ls (lv_sub hl [2, 1, 0] rfl)

section DTK_0_freePiece
variable {p : Program} {l : Launch} {e : Env} {R : Room} {s : State} {m : MethodId} {args : Array Value} {below : List Frame} {meth : Method} {c : Code} {H : Heap} {locs : List Loc} {cells slots : Nat} {Q : State → Prop}
variable {cc : ByteArray} {nL : Nat} {own : String} {rty : Option FieldType} {D : va_G} {A : Nat → Prop} {pw : Nat} {ls : Array Slot} {rest : List Value} {d dz : ClassId} {h0 : Nat} {a : Nat → Nat}
theorem dt_k0_freePiece {made : Int32} {n : Nat} {st sz mr kt nb sl dp pc rt : dt_F}  (E : dt_ev p s m args meth c cc nL RX0 rty D [(d, .int)]) (h : dt_hq D A s (dt_w0 d h0 a (made, n, st, sz, mr, kt, nb, sl, dp, pc, rt)) H locs)  (hR : ((dt_rm 0 0)).frames + 1 ≤ R.frames ∧ 8 + (3 + 11) + ((dt_rm 0 0)).locals ≤ R.locals) (hsz : ls.size = nL) (hroom : (rest.map fun v => v.category).sum ≤ 8) (hf : cells ≤ R.cells ∧ slots ≤ R.slots) (hdg : decode cc pw = .ok (.invokevirtual 51, 3)) (kk : ∀ (H1 : Heap) (locs1 : List Loc), dt_hq D A s (dt_w0 d h0 a (made, n, st, sz, mr, kt, nb, sl, dp, pc, rt)) H1 locs1 → W p l e R s m args below meth c H1 locs1 cells slots Q (F0 m (pw + 3) ls (.int (nI (dt_fpc kt 16 0)) :: rest))) : W p l e R s m args below meth c H locs cells slots Q (F0 m pw ls (.ref h0 :: rest)) :=
  dt_c0i (As := []) (nA := 0) E h (m0_freePiece l D d h0 a H.size made n st sz mr kt nb sl dp pc rt ) (lw_V q76 q78 qs2 q19 q79) rfl (by decide +kernel) hR ⟨rfl, rfl⟩ hsz rfl hroom hdg hf kk
end DTK_0_freePiece

set_option maxHeartbeats 4000000 in
set_option maxRecDepth 100000 in
theorem m0_holdsOthers (l : Launch) (D : va_G) (d : ClassId) (h0 : Nat) (a : Nat → Nat) (z : Nat) (made : Int32) (n : Nat) (st sz mr kt nb sl dp pc rt : dt_F) (pv : Nat) (hp : pv < 16) : dt_Ci l yX0_holdsOthers cX0_holdsOthers 4 (some .boolean) (dt_rm 0 0) [(d, .int)] [.ref h0, .int (nI pv)] (dt_w0 d h0 a (made, n, st, sz, mr, kt, nb, sl, dp, pc, rt)) (dt_w0 d h0 a (made, n, st, sz, mr, kt, nb, sl, dp, pc, rt)) (dt_b (dt_ho st sz kt nb pv 16 0)) D z := by
  refine dt_Ci.ofW (own := RX0) (by decide) rfl (Nat.le_of_ble_eq_true rfl) ?_
  intro p e s m below meth c A ls E hu hl
  have hx := E.1
  have hb := E.2.1
  have hl : lv_has ls 4 [(0, .ref h0), (1, .int (nI pv))] := hl
  refine lv_iconst (v := nI 0) hx hb dX0_holdsOthers_0 (by decide) ?_
  refine lv_istore_n (lv' := [(2, .int (nI 0)), (0, .ref h0), (1, .int (nI pv))]) hx hb dX0_holdsOthers_1 rfl hl (by decide) rfl (fun ls hl => ?_)
  have lp : ∀ (dd : Nat) (k : Nat), k + dd = 16 → dt_ho st sz kt nb pv dd k = dt_ho st sz kt nb pv 16 0 → ∀ (ls : Array Slot), lv_has ls 4 [(0, .ref h0), (1, .int (nI pv)), (2, .int (nI k))] → W p l e (dt_rm 0 0) s m ([.ref h0, .int (nI pv)] : List Value).toArray below meth c s.heap [] 0 0 (MQ below (dt_QI [(d, .int)] (dt_w0 d h0 a (made, n, st, sz, mr, kt, nb, sl, dp, pc, rt)) (dt_b (dt_ho st sz kt nb pv 16 0)) D A) ([.ref h0, .int (nI pv)] : List Value).toArray s 0 0 A) (F0 m 2 ls []) := by
    intro dd
    induction dd with
    | zero =>
      intro k hk hf ls hl
      refine lv_iload_n hx hb dX0_holdsOthers_2 rfl (lv_at hl 2 rfl) ?_
      refine lv_bipush (v := nI 16) hx hb dX0_holdsOthers_3 (by decide) ?_
      refine lv_icmp_ge (tgt := 94) hx hb dX0_holdsOthers_5 (by decide) (fun c1 => ?_) (fun c1 => absurd (nI_le (by omega) (by omega)) c1)
      rw [← hf]
      refine lv_iconst (v := dt_b false) hx hb dX0_holdsOthers_94 (by decide) ?_
      exact dt_rz (b := dt_ho st sz kt nb pv 0 k) E hu dX0_holdsOthers_95
    | succ dd ih =>
      intro k hk hf ls hl
      refine lv_iload_n hx hb dX0_holdsOthers_2 rfl (lv_at hl 2 rfl) ?_
      refine lv_bipush (v := nI 16) hx hb dX0_holdsOthers_3 (by decide) ?_
      refine lv_icmp_ge (tgt := 94) hx hb dX0_holdsOthers_5 (by decide) (fun c1 => absurd c1 (nI_ge (by omega) (by omega))) (fun c1 => ?_)
      refine lv_aload_n hx hb dX0_holdsOthers_8 rfl (lv_at hl 0 rfl) ?_
      refine dt_g0_kt E hu dX0_holdsOthers_9 ?_
      refine lv_iload_n hx hb dX0_holdsOthers_12 rfl (lv_at hl 2 rfl) ?_
      refine dt_l0_kt E hu (j := k) (by omega) dX0_holdsOthers_13 ?_
      refine lv_if_le (tgt := 36) hx hb dX0_holdsOthers_14 (by decide) (fun c2 => ?_) (fun c2 => ?_)
      · refine lv_iconst (v := 0) hx hb dX0_holdsOthers_36 (by decide) ?_
        refine lv_istore_n (lv' := [(3, .int 0), (0, .ref h0), (1, .int (nI pv)), (2, .int (nI k))]) hx hb dX0_holdsOthers_37 rfl hl (by decide) rfl (fun ls hl => ?_)
        refine lv_iload_n hx hb dX0_holdsOthers_38 rfl (lv_at hl 0 rfl) ?_
        refine lv_if_eq (tgt := 88) hx hb dX0_holdsOthers_39 (by decide) (fun c9 => ?_) (fun c9 => absurd rfl c9)
        refine lv_iinc (v := nI (k + 1)) (lv' := [(2, .int (nI (k + 1))), (3, .int 0), (0, .ref h0), (1, .int (nI pv))]) hx hb dX0_holdsOthers_88 hl (k := 3) rfl (dt_inc _) (by decide) rfl (fun ls hl => ?_)
        refine lv_goto (tgt := 2) hx hb dX0_holdsOthers_91 (by decide) ?_
        have es : (decide (0 < kt k) && dt_ls st sz nb k pv) = false := by rw [decide_eq_false (Int32.not_lt.mpr c2), Bool.false_and]
        exact ih (k + 1) (by omega) (by rw [← hf]; show _ = ((decide (0 < kt k) && dt_ls st sz nb k pv) || dt_ho st sz kt nb pv dd (k + 1)); rw [es]; rfl) ls (lv_sub hl [2, 3, 0] rfl)
      · refine lv_aload_n hx hb dX0_holdsOthers_17 rfl (lv_at hl 0 rfl) ?_
        refine dt_g0_nb E hu dX0_holdsOthers_18 ?_
        refine lv_iload_n hx hb dX0_holdsOthers_21 rfl (lv_at hl 2 rfl) ?_
        refine dt_l0_nb E hu (j := k) (by omega) dX0_holdsOthers_22 ?_
        refine lv_aload_n hx hb dX0_holdsOthers_23 rfl (lv_at hl 0 rfl) ?_
        refine dt_g0_nb E hu dX0_holdsOthers_24 ?_
        refine lv_iload_n hx hb dX0_holdsOthers_27 rfl (lv_at hl 1 rfl) ?_
        refine dt_l0_nb E hu (j := pv) hp dX0_holdsOthers_28 ?_
        refine lv_icmp_le (tgt := 36) hx hb dX0_holdsOthers_29 (by decide) (fun c3 => ?_) (fun c3 => ?_)
        · refine lv_iconst (v := 0) hx hb dX0_holdsOthers_36 (by decide) ?_
          refine lv_istore_n (lv' := [(3, .int 0), (0, .ref h0), (1, .int (nI pv)), (2, .int (nI k))]) hx hb dX0_holdsOthers_37 rfl hl (by decide) rfl (fun ls hl => ?_)
          refine lv_iload_n hx hb dX0_holdsOthers_38 rfl (lv_at hl 0 rfl) ?_
          refine lv_if_eq (tgt := 88) hx hb dX0_holdsOthers_39 (by decide) (fun c9 => ?_) (fun c9 => absurd rfl c9)
          refine lv_iinc (v := nI (k + 1)) (lv' := [(2, .int (nI (k + 1))), (3, .int 0), (0, .ref h0), (1, .int (nI pv))]) hx hb dX0_holdsOthers_88 hl (k := 3) rfl (dt_inc _) (by decide) rfl (fun ls hl => ?_)
          refine lv_goto (tgt := 2) hx hb dX0_holdsOthers_91 (by decide) ?_
          have es : (decide (0 < kt k) && dt_ls st sz nb k pv) = false := by unfold dt_ls; rw [decide_eq_false (Int32.not_lt.mpr c3), Bool.false_and, Bool.and_false]
          exact ih (k + 1) (by omega) (by rw [← hf]; show _ = ((decide (0 < kt k) && dt_ls st sz nb k pv) || dt_ho st sz kt nb pv dd (k + 1)); rw [es]; rfl) ls (lv_sub hl [2, 3, 0] rfl)
        · refine lv_iconst (v := 1) hx hb dX0_holdsOthers_32 (by decide) ?_
          refine lv_goto (tgt := 37) hx hb dX0_holdsOthers_33 (by decide) ?_
          refine lv_istore_n (lv' := [(3, .int 1), (0, .ref h0), (1, .int (nI pv)), (2, .int (nI k))]) hx hb dX0_holdsOthers_37 rfl hl (by decide) rfl (fun ls hl => ?_)
          refine lv_iload_n hx hb dX0_holdsOthers_38 rfl (lv_at hl 0 rfl) ?_
          refine lv_if_eq (tgt := 88) hx hb dX0_holdsOthers_39 (by decide) (fun c9 => absurd c9 (by decide)) (fun c9 => ?_)
          refine lv_aload_n hx hb dX0_holdsOthers_42 rfl (lv_at hl 1 rfl) ?_
          refine dt_g0_st E hu dX0_holdsOthers_43 ?_
          refine lv_iload_n hx hb dX0_holdsOthers_46 rfl (lv_at hl 3 rfl) ?_
          refine dt_l0_st E hu (j := k) (by omega) dX0_holdsOthers_47 ?_
          refine lv_aload_n hx hb dX0_holdsOthers_48 rfl (lv_at hl 1 rfl) ?_
          refine dt_g0_st E hu dX0_holdsOthers_49 ?_
          refine lv_iload_n hx hb dX0_holdsOthers_52 rfl (lv_at hl 2 rfl) ?_
          refine dt_l0_st E hu (j := pv) hp dX0_holdsOthers_53 ?_
          refine lv_icmp_lt (tgt := 88) hx hb dX0_holdsOthers_54 (by decide) (fun c4 => ?_) (fun c4 => ?_)
          · refine lv_iinc (v := nI (k + 1)) (lv' := [(2, .int (nI (k + 1))), (3, .int 1), (0, .ref h0), (1, .int (nI pv))]) hx hb dX0_holdsOthers_88 hl (k := 3) rfl (dt_inc _) (by decide) rfl (fun ls hl => ?_)
            refine lv_goto (tgt := 2) hx hb dX0_holdsOthers_91 (by decide) ?_
            have es : (decide (0 < kt k) && dt_ls st sz nb k pv) = false := by unfold dt_ls; rw [decide_eq_false (Int32.not_le.mpr c4), Bool.false_and, Bool.and_false, Bool.and_false]
            exact ih (k + 1) (by omega) (by rw [← hf]; show _ = ((decide (0 < kt k) && dt_ls st sz nb k pv) || dt_ho st sz kt nb pv dd (k + 1)); rw [es]; rfl) ls (lv_sub hl [2, 3, 0] rfl)
          · refine lv_aload_n hx hb dX0_holdsOthers_57 rfl (lv_at hl 1 rfl) ?_
            refine dt_g0_st E hu dX0_holdsOthers_58 ?_
            refine lv_iload_n hx hb dX0_holdsOthers_61 rfl (lv_at hl 3 rfl) ?_
            refine dt_l0_st E hu (j := k) (by omega) dX0_holdsOthers_62 ?_
            refine lv_aload_n hx hb dX0_holdsOthers_63 rfl (lv_at hl 1 rfl) ?_
            refine dt_g0_sz E hu dX0_holdsOthers_64 ?_
            refine lv_iload_n hx hb dX0_holdsOthers_67 rfl (lv_at hl 3 rfl) ?_
            refine dt_l0_sz E hu (j := k) (by omega) dX0_holdsOthers_68 ?_
            refine lv_iadd hx hb dX0_holdsOthers_69 ?_
            refine lv_aload_n hx hb dX0_holdsOthers_70 rfl (lv_at hl 1 rfl) ?_
            refine dt_g0_st E hu dX0_holdsOthers_71 ?_
            refine lv_iload_n hx hb dX0_holdsOthers_74 rfl (lv_at hl 2 rfl) ?_
            refine dt_l0_st E hu (j := pv) hp dX0_holdsOthers_75 ?_
            refine lv_aload_n hx hb dX0_holdsOthers_76 rfl (lv_at hl 1 rfl) ?_
            refine dt_g0_sz E hu dX0_holdsOthers_77 ?_
            refine lv_iload_n hx hb dX0_holdsOthers_80 rfl (lv_at hl 2 rfl) ?_
            refine dt_l0_sz E hu (j := pv) hp dX0_holdsOthers_81 ?_
            refine lv_iadd hx hb dX0_holdsOthers_82 ?_
            refine lv_icmp_gt (tgt := 88) hx hb dX0_holdsOthers_83 (by decide) (fun c5 => ?_) (fun c5 => ?_)
            · refine lv_iinc (v := nI (k + 1)) (lv' := [(2, .int (nI (k + 1))), (3, .int 1), (0, .ref h0), (1, .int (nI pv))]) hx hb dX0_holdsOthers_88 hl (k := 3) rfl (dt_inc _) (by decide) rfl (fun ls hl => ?_)
              refine lv_goto (tgt := 2) hx hb dX0_holdsOthers_91 (by decide) ?_
              have es : (decide (0 < kt k) && dt_ls st sz nb k pv) = false := by unfold dt_ls; rw [decide_eq_false (Int32.not_le.mpr c5), Bool.and_false, Bool.and_false, Bool.and_false]
              exact ih (k + 1) (by omega) (by rw [← hf]; show _ = ((decide (0 < kt k) && dt_ls st sz nb k pv) || dt_ho st sz kt nb pv dd (k + 1)); rw [es]; rfl) ls (lv_sub hl [2, 3, 0] rfl)
            · refine lv_iconst (v := dt_b true) hx hb dX0_holdsOthers_86 (by decide) ?_
              rw [← hf, show dt_ho st sz kt nb pv (dd + 1) k = true from by show ((decide (0 < kt k) && dt_ls st sz nb k pv) || dt_ho st sz kt nb pv dd (k + 1)) = true; unfold dt_ls; rw [decide_eq_true (Int32.not_le.mp c2), decide_eq_true (Int32.not_le.mp c3), decide_eq_true (Int32.not_lt.mp c4), decide_eq_true (Int32.not_lt.mp c5)]; rfl]
              exact dt_rz E hu dX0_holdsOthers_87
  exact lp 16 0 (by omega) rfl ls (lv_sub hl [1, 2, 0] rfl)

section DTK_0_holdsOthers
variable {p : Program} {l : Launch} {e : Env} {R : Room} {s : State} {m : MethodId} {args : Array Value} {below : List Frame} {meth : Method} {c : Code} {H : Heap} {locs : List Loc} {cells slots : Nat} {Q : State → Prop}
variable {cc : ByteArray} {nL : Nat} {own : String} {rty : Option FieldType} {D : va_G} {A : Nat → Prop} {pw : Nat} {ls : Array Slot} {rest : List Value} {d dz : ClassId} {h0 : Nat} {a : Nat → Nat}
theorem dt_k0_holdsOthers {made : Int32} {n : Nat} {st sz mr kt nb sl dp pc rt : dt_F} {pv : Nat} (E : dt_ev p s m args meth c cc nL RX0 rty D [(d, .int)]) (h : dt_hq D A s (dt_w0 d h0 a (made, n, st, sz, mr, kt, nb, sl, dp, pc, rt)) H locs) (hp : pv < 16) (hR : ((dt_rm 0 0)).frames + 1 ≤ R.frames ∧ 8 + (4 + 11) + ((dt_rm 0 0)).locals ≤ R.locals) (hsz : ls.size = nL) (hroom : (rest.map fun v => v.category).sum ≤ 8) (hf : cells ≤ R.cells ∧ slots ≤ R.slots) (hdg : decode cc pw = .ok (.invokevirtual 77, 3)) (kk : ∀ (H1 : Heap) (locs1 : List Loc), dt_hq D A s (dt_w0 d h0 a (made, n, st, sz, mr, kt, nb, sl, dp, pc, rt)) H1 locs1 → W p l e R s m args below meth c H1 locs1 cells slots Q (F0 m (pw + 3) ls (.int (dt_b (dt_ho st sz kt nb pv 16 0)) :: rest))) : W p l e R s m args below meth c H locs cells slots Q (F0 m pw ls (.int (nI pv) :: .ref h0 :: rest)) :=
  dt_c0i (As := [.int (nI pv)]) (nA := 1) E h (m0_holdsOthers l D d h0 a H.size made n st sz mr kt nb sl dp pc rt pv hp) (lw_V q116 q118 qs9 q19 q119) rfl (by decide +kernel) hR ⟨rfl, rfl⟩ hsz rfl hroom hdg hf kk
end DTK_0_holdsOthers
end
section
/-! the pure methods, case by case; what a state gives to a walk -/
theorem dt_W0_held {made : Int32} {n : Nat} {st sz mr kt nb sl dp pc rt : dt_F} {x : Int32} (hW : dt_W0 (made, n, st, sz, mr, kt, nb, sl, dp, pc, rt)) (hh : dt_hd pc x = true) : ∃ sv qv i, sv < 16 ∧ x = nI sv ∧ qv < 16 ∧ pc sv = nI qv ∧ i < n ∧ dt_plc sl (nI sv) n = i := by
  obtain ⟨hn, hpc, hfree, S, hS, hinj, hsur⟩ := hW
  obtain ⟨sv, hs, rfl, hp⟩ := dt_hd_iff.mp hh
  obtain ⟨qv, hq, hpq⟩ := (hpc sv hs).resolve_left (fun q => hp (by rw [q]; exact dt_m1))
  obtain ⟨i, hi, hSi⟩ := hsur sv hs hp
  refine ⟨sv, qv, i, hs, rfl, hq, hpq, hi, ?_⟩
  rw [← hSi]
  refine dt_plc_eq n hi (hS i hi).1 (fun j hj e => hinj j i hj hi ?_)
  have a := (hS j hj).2.1
  have b := (hS i hi).2.1
  exact (nI_eq (by omega) (by omega)).mp ((hS j hj).1.symm.trans e)
theorem dt_W0_free {made : Int32} {n : Nat} {st sz mr kt nb sl dp pc rt : dt_F} {y : Int32} (hW : dt_W0 (made, n, st, sz, mr, kt, nb, sl, dp, pc, rt)) (hh : dt_fr pc y = true) : ∃ tv, tv < 16 ∧ y = nI tv ∧ n < 16 := by
  obtain ⟨hn, hpc, hfree, -⟩ := hW
  obtain ⟨tv, ht, e, hp⟩ := dt_fr_iff.mp hh
  exact ⟨tv, ht, e, hfree tv ht hp⟩
theorem dt_W0_n {made : Int32} {n : Nat} {st sz mr kt nb sl dp pc rt : dt_F} (hW : dt_W0 (made, n, st, sz, mr, kt, nb, sl, dp, pc, rt)) : n ≤ 16 := hW.1
theorem dt_W0_S {made : Int32} {n : Nat} {st sz mr kt nb sl dp pc rt : dt_F} (hW : dt_W0 (made, n, st, sz, mr, kt, nb, sl, dp, pc, rt)) : ∃ S : Nat → Nat, (∀ k, k < n → sl k = nI (S k) ∧ S k < 16 ∧ ∃ q, q < 16 ∧ pc (S k) = nI q) ∧ (∀ j k, j < n → k < n → S j = S k → j = k) := by
  obtain ⟨hn, hpc, hfree, S, hS, hinj, hsur⟩ := hW
  refine ⟨S, fun k hk => ⟨(hS k hk).1, (hS k hk).2.1, ?_⟩, hinj⟩
  exact (hpc (S k) (hS k hk).2.1).resolve_left (fun q => (hS k hk).2.2 (by rw [q]; exact dt_m1))
section DTU
variable {made : Int32} {n : Nat} {st sz mr kt nb sl dp pc rt : dt_F} {x y z : Int32} {sv qv pv tv i : Nat}
theorem dt_put_eq {r : Int32} (hpl : dt_plc sl x n = i) : dt_put (made, n, st, sz, mr, kt, nb, sl, dp, pc, rt) x tv qv r = (made, n + 1, st, sz, mr, upd kt qv (kt qv + 1), nb, upd (dt_shu (i + 1) (n - (i + 1)) sl) (i + 1) (nI tv), upd (dt_shu (i + 1) (n - (i + 1)) dp) (i + 1) (dt_shu (i + 1) (n - (i + 1)) dp i + 1), upd pc tv (nI qv), upd rt tv r) := by
  subst hpl; rfl
theorem dt_split_no (h : ¬ (dt_hd pc x = true ∧ dt_fr pc y = true ∧ 1 ≤ z)) : dt_split (made, n, st, sz, mr, kt, nb, sl, dp, pc, rt) x y z = (-1, (made, n, st, sz, mr, kt, nb, sl, dp, pc, rt)) := if_neg (fun q => h ⟨q.1, q.2.1, q.2.2.1⟩)
theorem dt_split_noz (hs : sv < 16) (hp : pv < 16) (hpc : pc sv = nI pv) (h : ¬ z ≤ sz pv - mr pv) : dt_split (made, n, st, sz, mr, kt, nb, sl, dp, pc, rt) (nI sv) y z = (-1, (made, n, st, sz, mr, kt, nb, sl, dp, pc, rt)) := by
  refine if_neg (fun q => h ?_)
  have := q.2.2.2
  rw [nI_clamp (by omega), hpc, nI_clamp (by omega)] at this
  exact this
theorem dt_split_yes (h1 : dt_hd pc (nI sv) = true) (h2 : dt_fr pc (nI tv) = true) (h3 : 1 ≤ z) (h4 : z ≤ sz pv - mr pv) (hs : sv < 16) (ht : tv < 16) (hp : pv < 16) (hpc : pc sv = nI pv) (hpl : dt_plc sl (nI sv) n = i) : dt_split (made, n, st, sz, mr, kt, nb, sl, dp, pc, rt) (nI sv) (nI tv) z =
    (upd st (dt_fpc kt 16 0) (st pv + mr pv) (dt_fpc kt 16 0), (made + 1, n + 1, upd st (dt_fpc kt 16 0) (st pv + mr pv), upd sz (dt_fpc kt 16 0) z, upd (upd mr (dt_fpc kt 16 0) 0) pv (upd mr (dt_fpc kt 16 0) 0 pv + z), upd (upd kt (dt_fpc kt 16 0) 0) (dt_fpc kt 16 0) (upd kt (dt_fpc kt 16 0) 0 (dt_fpc kt 16 0) + 1), upd nb (dt_fpc kt 16 0) made, upd (dt_shu (i + 1) (n - (i + 1)) sl) (i + 1) (nI tv), upd (dt_shu (i + 1) (n - (i + 1)) dp) (i + 1) (dt_shu (i + 1) (n - (i + 1)) dp i + 1), upd pc tv (nI (dt_fpc kt 16 0)), upd rt tv (rt sv))) := by
  have e1 : (nI sv).toNatClampNeg = sv := nI_clamp (by omega)
  have e2 : (nI tv).toNatClampNeg = tv := nI_clamp (by omega)
  have e3 : (nI pv).toNatClampNeg = pv := nI_clamp (by omega)
  simp only [dt_split, e1, e2, hpc, e3]
  rw [if_pos ⟨h1, h2, h3, h4⟩, dt_put_eq hpl]
theorem dt_copy_no (h : ¬ (dt_hd pc x = true ∧ dt_fr pc y = true)) : dt_copy (made, n, st, sz, mr, kt, nb, sl, dp, pc, rt) x y z = (-1, (made, n, st, sz, mr, kt, nb, sl, dp, pc, rt)) := if_neg h
theorem dt_copy_yes (h1 : dt_hd pc (nI sv) = true) (h2 : dt_fr pc (nI tv) = true) (hs : sv < 16) (ht : tv < 16) (hp : pv < 16) (hpc : pc sv = nI pv) (hpl : dt_plc sl (nI sv) n = i) : dt_copy (made, n, st, sz, mr, kt, nb, sl, dp, pc, rt) (nI sv) (nI tv) z =
    (upd rt tv (rt sv &&& z) tv, (made, n + 1, st, sz, mr, upd kt pv (kt pv + 1), nb, upd (dt_shu (i + 1) (n - (i + 1)) sl) (i + 1) (nI tv), upd (dt_shu (i + 1) (n - (i + 1)) dp) (i + 1) (dt_shu (i + 1) (n - (i + 1)) dp i + 1), upd pc tv (nI pv), upd rt tv (rt sv &&& z))) := by
  have e1 : (nI sv).toNatClampNeg = sv := nI_clamp (by omega)
  have e2 : (nI tv).toNatClampNeg = tv := nI_clamp (by omega)
  have e3 : (nI pv).toNatClampNeg = pv := nI_clamp (by omega)
  simp only [dt_copy, e1, e2, hpc, e3]
  rw [if_pos ⟨h1, h2⟩, dt_put_eq hpl]
theorem dt_move_no (h : ¬ (dt_hd pc x = true ∧ dt_fr pc y = true)) : dt_move (made, n, st, sz, mr, kt, nb, sl, dp, pc, rt) x y = (-1, (made, n, st, sz, mr, kt, nb, sl, dp, pc, rt)) := if_neg h
theorem dt_move_yes (h1 : dt_hd pc (nI sv) = true) (h2 : dt_fr pc (nI tv) = true) (hs : sv < 16) (ht : tv < 16) (hpl : dt_plc sl (nI sv) n = i) : dt_move (made, n, st, sz, mr, kt, nb, sl, dp, pc, rt) (nI sv) (nI tv) =
    (0, (made, n, st, sz, mr, kt, nb, upd sl i (nI tv), dp, upd (upd pc tv (pc sv)) sv (-1), upd rt tv (rt sv))) := by
  have e1 : (nI sv).toNatClampNeg = sv := nI_clamp (by omega)
  have e2 : (nI tv).toNatClampNeg = tv := nI_clamp (by omega)
  simp only [dt_move, e1, e2, hpl]
  rw [if_pos ⟨h1, h2⟩]
theorem dt_delete_no (h : ¬ dt_hd pc x = true) : dt_delete (made, n, st, sz, mr, kt, nb, sl, dp, pc, rt) x = (-1, (made, n, st, sz, mr, kt, nb, sl, dp, pc, rt)) := if_neg h
theorem dt_delete_yes (h1 : dt_hd pc (nI sv) = true) (hs : sv < 16) (hq : qv < 16) (hpc : pc sv = nI qv) (hpl : dt_plc sl (nI sv) n = i) : dt_delete (made, n, st, sz, mr, kt, nb, sl, dp, pc, rt) (nI sv) =
    ((dt_lf (dp i) (dt_end dp n i - (i + 1)) (i + 1) 0 dp).1, (made, n - 1, st, sz, dt_rs st sz (upd kt qv (kt qv - 1)) nb 16 0 mr, upd kt qv (kt qv - 1), nb, dt_shd 1 (n - (i + 1)) (i + 1) sl, dt_shd 1 (n - (i + 1)) (i + 1) (dt_lf (dp i) (dt_end dp n i - (i + 1)) (i + 1) 0 dp).2, upd pc sv (-1), rt)) := by
  have e1 : (nI sv).toNatClampNeg = sv := nI_clamp (by omega)
  have e3 : (nI qv).toNatClampNeg = qv := nI_clamp (by omega)
  simp only [dt_delete, e1, hpl, dt_fgk, hpc, e3]
  rw [if_pos h1]
theorem dt_revoke_no (h : ¬ dt_hd pc x = true) : dt_revoke (made, n, st, sz, mr, kt, nb, sl, dp, pc, rt) x = (-1, (made, n, st, sz, mr, kt, nb, sl, dp, pc, rt)) := if_neg h
theorem dt_revoke_yes (h1 : dt_hd pc x = true) (hpl : dt_plc sl x n = i) : dt_revoke (made, n, st, sz, mr, kt, nb, sl, dp, pc, rt) x =
    (nI (dt_end dp n i - (i + 1)), (made, n - (dt_end dp n i - (i + 1)), st, sz, dt_rs st sz (dt_fgs sl (dt_end dp n i - (i + 1)) (i + 1) kt pc).1 nb 16 0 mr, (dt_fgs sl (dt_end dp n i - (i + 1)) (i + 1) kt pc).1, nb, dt_shd (dt_end dp n i - (i + 1)) (n - dt_end dp n i) (dt_end dp n i) sl, dt_shd (dt_end dp n i - (i + 1)) (n - dt_end dp n i) (dt_end dp n i) dp, (dt_fgs sl (dt_end dp n i - (i + 1)) (i + 1) kt pc).2, rt)) := by
  simp only [dt_revoke, hpl]
  rw [if_pos h1]
theorem dt_fgs_step {kt1 pc1 : dt_F} {k dd : Nat} (e1 : sl k = nI sv) (hs : sv < 16) (hq : qv < 16) (hpc : pc1 sv = nI qv) : dt_fgs sl (dd + 1) k kt1 pc1 = dt_fgs sl dd (k + 1) (upd kt1 qv (kt1 qv - 1)) (upd pc1 sv (-1)) := by
  show dt_fgs sl dd (k + 1) (dt_fgk kt1 pc1 (sl k).toNatClampNeg) (upd pc1 (sl k).toNatClampNeg (-1)) = _
  rw [e1, nI_clamp (by omega)]
  unfold dt_fgk
  rw [hpc, nI_clamp (by omega)]
theorem dt_piece_no (h : ¬ dt_hd pc x = true) : dt_piece (made, n, st, sz, mr, kt, nb, sl, dp, pc, rt) x = -1 := if_neg h
theorem dt_piece_yes (h1 : dt_hd pc (nI sv) = true) (hs : sv < 16) (hq : qv < 16) (hpc : pc sv = nI qv) : dt_piece (made, n, st, sz, mr, kt, nb, sl, dp, pc, rt) (nI sv) = 100 * st qv + sz qv := by
  have e1 : (nI sv).toNatClampNeg = sv := nI_clamp (by omega)
  have e3 : (nI qv).toNatClampNeg = qv := nI_clamp (by omega)
  simp only [dt_piece, e1, hpc, e3]
  rw [if_pos h1]
theorem dt_rights_no (h : ¬ dt_hd pc x = true) : dt_rights (made, n, st, sz, mr, kt, nb, sl, dp, pc, rt) x = -1 := if_neg h
theorem dt_rights_yes (h1 : dt_hd pc (nI sv) = true) (hs : sv < 16) : dt_rights (made, n, st, sz, mr, kt, nb, sl, dp, pc, rt) (nI sv) = rt sv := by
  have e1 : (nI sv).toNatClampNeg = sv := nI_clamp (by omega)
  simp only [dt_rights, e1]
  rw [if_pos h1]
theorem dt_room_no (h : ¬ dt_hd pc x = true) : dt_room (made, n, st, sz, mr, kt, nb, sl, dp, pc, rt) x = -1 := if_neg h
theorem dt_room_yes (h1 : dt_hd pc (nI sv) = true) (hs : sv < 16) (hq : qv < 16) (hpc : pc sv = nI qv) : dt_room (made, n, st, sz, mr, kt, nb, sl, dp, pc, rt) (nI sv) = sz qv - mr qv := by
  have e1 : (nI sv).toNatClampNeg = sv := nI_clamp (by omega)
  have e3 : (nI qv).toNatClampNeg = qv := nI_clamp (by omega)
  simp only [dt_room, e1, hpc, e3]
  rw [if_pos h1]
theorem dt_descends_no (h : ¬ (dt_hd pc x = true ∧ dt_hd pc y = true)) : dt_descends (made, n, st, sz, mr, kt, nb, sl, dp, pc, rt) x y = -1 := if_neg h
theorem dt_descends_yes {j : Nat} (h1 : dt_hd pc x = true) (h2 : dt_hd pc y = true) (hpl : dt_plc sl x n = i) (hpl2 : dt_plc sl y n = j) : dt_descends (made, n, st, sz, mr, kt, nb, sl, dp, pc, rt) x y = if i < j ∧ j < dt_end dp n i then 1 else 0 := by
  simp only [dt_descends, hpl, hpl2]
  rw [if_pos ⟨h1, h2⟩]
theorem dt_descendants_no (h : ¬ dt_hd pc x = true) : dt_descendants (made, n, st, sz, mr, kt, nb, sl, dp, pc, rt) x = -1 := if_neg h
theorem dt_descendants_yes (h1 : dt_hd pc x = true) (hpl : dt_plc sl x n = i) : dt_descendants (made, n, st, sz, mr, kt, nb, sl, dp, pc, rt) x = nI (dt_end dp n i - (i + 1)) := by
  simp only [dt_descendants, hpl]
  rw [if_pos h1]
end DTU
section DTV
variable {made : Int32} {hd pc rt par st sz mr nb gg : dt_F} {x y z : Int32} {sv qv pv tv : Nat}
theorem dm_split_no (h : ¬ (dt_ms hd x = false ∧ dt_tk hd y = false)) : dm_split (hd, pc, rt, par, st, sz, mr, nb, made, gg) x y z = (-1, (hd, pc, rt, par, st, sz, mr, nb, made, gg)) := if_neg (fun q => h ⟨q.1, q.2.1⟩)
theorem dm_split_noz (hs : sv < 16) (hp : pv < 16) (hpc : pc sv = nI pv) (h : ¬ (1 ≤ z ∧ z ≤ sz pv - mr pv)) : dm_split (hd, pc, rt, par, st, sz, mr, nb, made, gg) (nI sv) y z = (-1, (hd, pc, rt, par, st, sz, mr, nb, made, gg)) := by
  refine if_neg (fun q => h ?_)
  have := q.2.2
  rw [nI_clamp (by omega), hpc, nI_clamp (by omega)] at this
  exact this
theorem dm_split_yes (h1 : dt_ms hd (nI sv) = false) (h2 : dt_tk hd (nI tv) = false) (h3 : 1 ≤ z) (h4 : z ≤ sz pv - mr pv) (hs : sv < 16) (ht : tv < 16) (hp : pv < 16) (hpc : pc sv = nI pv) : dm_split (hd, pc, rt, par, st, sz, mr, nb, made, gg) (nI sv) (nI tv) z =
    (upd st (dt_sc hd pc 15 0) (st pv + mr pv) (dt_sc hd pc 15 0), (upd hd tv 1, upd pc tv (nI (dt_sc hd pc 15 0)), upd rt tv (rt sv), upd par tv (nI sv), upd st (dt_sc hd pc 15 0) (st pv + mr pv), upd sz (dt_sc hd pc 15 0) z, upd (upd mr (dt_sc hd pc 15 0) 0) pv (upd mr (dt_sc hd pc 15 0) 0 pv + z), upd nb (dt_sc hd pc 15 0) made, made + 1, gg)) := by
  have e1 : (nI sv).toNatClampNeg = sv := nI_clamp (by omega)
  have e2 : (nI tv).toNatClampNeg = tv := nI_clamp (by omega)
  have e3 : (nI pv).toNatClampNeg = pv := nI_clamp (by omega)
  simp only [dm_split, e1, e2, hpc, e3]
  rw [if_pos ⟨h1, h2, h3, h4⟩]
  rfl
theorem dm_copy_no (h : ¬ (dt_ms hd x = false ∧ dt_tk hd y = false)) : dm_copy (hd, pc, rt, par, st, sz, mr, nb, made, gg) x y z = (-1, (hd, pc, rt, par, st, sz, mr, nb, made, gg)) := if_neg h
theorem dm_copy_yes (h1 : dt_ms hd (nI sv) = false) (h2 : dt_tk hd (nI tv) = false) (hs : sv < 16) (ht : tv < 16) : dm_copy (hd, pc, rt, par, st, sz, mr, nb, made, gg) (nI sv) (nI tv) z =
    (upd rt tv (rt sv &&& z) tv, (upd hd tv 1, upd pc tv (pc sv), upd rt tv (rt sv &&& z), upd par tv (nI sv), st, sz, mr, nb, made, gg)) := by
  have e1 : (nI sv).toNatClampNeg = sv := nI_clamp (by omega)
  have e2 : (nI tv).toNatClampNeg = tv := nI_clamp (by omega)
  simp only [dm_copy, e1, e2]
  rw [if_pos ⟨h1, h2⟩]
  rfl
theorem dm_move_no (h : ¬ (dt_ms hd x = false ∧ dt_tk hd y = false)) : dm_move (hd, pc, rt, par, st, sz, mr, nb, made, gg) x y = (-1, (hd, pc, rt, par, st, sz, mr, nb, made, gg)) := if_neg h
theorem dm_move_yes (h1 : dt_ms hd (nI sv) = false) (h2 : dt_tk hd (nI tv) = false) (hs : sv < 16) (ht : tv < 16) : dm_move (hd, pc, rt, par, st, sz, mr, nb, made, gg) (nI sv) (nI tv) =
    (0, (upd (upd hd tv 1) sv 0, upd pc tv (pc sv), upd rt tv (rt sv), (dt_hn (upd (upd hd tv 1) sv 0) (nI sv) (nI tv) 16 0 0 (upd par tv (par sv))).2, st, sz, mr, nb, made, gg)) := by
  have e1 : (nI sv).toNatClampNeg = sv := nI_clamp (by omega)
  have e2 : (nI tv).toNatClampNeg = tv := nI_clamp (by omega)
  simp only [dm_move, e1, e2]
  rw [if_pos ⟨h1, h2⟩]
theorem dm_delete_no (h : ¬ dt_ms hd x = false) : dm_delete (hd, pc, rt, par, st, sz, mr, nb, made, gg) x = (-1, (hd, pc, rt, par, st, sz, mr, nb, made, gg)) := if_neg h
theorem dm_delete_yes (h1 : dt_ms hd (nI sv) = false) (hs : sv < 16) : dm_delete (hd, pc, rt, par, st, sz, mr, nb, made, gg) (nI sv) =
    ((dt_hn (upd hd sv 0) (nI sv) (par sv) 16 0 0 par).1, (upd hd sv 0, pc, rt, (dt_hn (upd hd sv 0) (nI sv) (par sv) 16 0 0 par).2, st, sz, dt_se (upd hd sv 0) pc st sz nb 16 0 mr, nb, made, gg)) := by
  have e1 : (nI sv).toNatClampNeg = sv := nI_clamp (by omega)
  simp only [dm_delete, e1]
  rw [if_pos h1]
theorem dm_revoke_no (h : ¬ dt_ms hd x = false) : dm_revoke (hd, pc, rt, par, st, sz, mr, nb, made, gg) x = (-1, (hd, pc, rt, par, st, sz, mr, nb, made, gg)) := if_neg h
theorem dm_revoke_yes (h1 : dt_ms hd x = false) : dm_revoke (hd, pc, rt, par, st, sz, mr, nb, made, gg) x =
    ((dt_gn (dt_gs hd par x 16 0 gg) 16 0 0 hd).1, ((dt_gn (dt_gs hd par x 16 0 gg) 16 0 0 hd).2, pc, rt, par, st, sz, dt_se (dt_gn (dt_gs hd par x 16 0 gg) 16 0 0 hd).2 pc st sz nb 16 0 mr, nb, made, dt_gs hd par x 16 0 gg)) := if_pos h1
theorem dm_piece_no (h : ¬ dt_ms hd x = false) : dm_piece (hd, pc, rt, par, st, sz, mr, nb, made, gg) x = -1 := if_neg h
theorem dm_piece_yes (h1 : dt_ms hd (nI sv) = false) (hs : sv < 16) (hq : qv < 16) (hpc : pc sv = nI qv) : dm_piece (hd, pc, rt, par, st, sz, mr, nb, made, gg) (nI sv) = 100 * st qv + sz qv := by
  have e1 : (nI sv).toNatClampNeg = sv := nI_clamp (by omega)
  have e3 : (nI qv).toNatClampNeg = qv := nI_clamp (by omega)
  simp only [dm_piece, e1, hpc, e3]
  rw [if_pos h1]
theorem dm_rights_no (h : ¬ dt_ms hd x = false) : dm_rights (hd, pc, rt, par, st, sz, mr, nb, made, gg) x = -1 := if_neg h
theorem dm_rights_yes (h1 : dt_ms hd (nI sv) = false) (hs : sv < 16) : dm_rights (hd, pc, rt, par, st, sz, mr, nb, made, gg) (nI sv) = rt sv := by
  have e1 : (nI sv).toNatClampNeg = sv := nI_clamp (by omega)
  simp only [dm_rights, e1]
  rw [if_pos h1]
theorem dm_room_no (h : ¬ dt_ms hd x = false) : dm_room (hd, pc, rt, par, st, sz, mr, nb, made, gg) x = -1 := if_neg h
theorem dm_room_yes (h1 : dt_ms hd (nI sv) = false) (hs : sv < 16) (hq : qv < 16) (hpc : pc sv = nI qv) : dm_room (hd, pc, rt, par, st, sz, mr, nb, made, gg) (nI sv) = sz qv - mr qv := by
  have e1 : (nI sv).toNatClampNeg = sv := nI_clamp (by omega)
  have e3 : (nI qv).toNatClampNeg = qv := nI_clamp (by omega)
  simp only [dm_room, e1, hpc, e3]
  rw [if_pos h1]
theorem dm_descends_no (h : ¬ (dt_ms hd x = false ∧ dt_ms hd y = false)) : dm_descends (hd, pc, rt, par, st, sz, mr, nb, made, gg) x y = -1 := if_neg h
theorem dm_descends_yes (h1 : dt_ms hd x = false) (h2 : dt_ms hd (nI tv) = false) (ht : tv < 16) : dm_descends (hd, pc, rt, par, st, sz, mr, nb, made, gg) x (nI tv) = dt_b (dt_bl par x 16 (par tv)) := by
  have e1 : (nI tv).toNatClampNeg = tv := nI_clamp (by omega)
  simp only [dm_descends, e1]
  rw [if_pos ⟨h1, h2⟩]
theorem dm_descendants_no (h : ¬ dt_ms hd x = false) : dm_descendants (hd, pc, rt, par, st, sz, mr, nb, made, gg) x = -1 := if_neg h
theorem dm_descendants_yes (h1 : dt_ms hd x = false) : dm_descendants (hd, pc, rt, par, st, sz, mr, nb, made, gg) x = dt_dc hd par x 16 0 0 := if_pos h1
end DTV
end
section
set_option maxRecDepth 100000
theorem dt_subg (i g : Nat) : nI (i + g) - nI i = nI g := by
  rw [pk_sub (by omega), Nat.add_sub_cancel_left]

set_option maxHeartbeats 4000000 in
set_option maxRecDepth 100000 in
theorem m0_putKey (l : Launch) (D : va_G) (d : ClassId) (h0 : Nat) (a : Nat → Nat) (z : Nat) (made : Int32) (n : Nat) (st sz mr kt nb sl dp pc rt : dt_F) (x : Int32) (tv qv : Nat) (r : Int32) (i : Nat) (hpl : dt_plc sl x n = i) (hi : i < n) (hn : n < 16) (ht : tv < 16) (hq : qv < 16) : dt_Cv l yX0_putKey cX0_putKey 7 (dt_rm 1 23) [(d, .int)] [.ref h0, .int x, .int (nI tv), .int (nI qv), .int r] (dt_w0 d h0 a (made, n, st, sz, mr, kt, nb, sl, dp, pc, rt)) (dt_w0 d h0 a (made, n + 1, st, sz, mr, upd kt qv (kt qv + 1), nb, upd (dt_shu (i + 1) (n - (i + 1)) sl) (i + 1) (nI tv), upd (dt_shu (i + 1) (n - (i + 1)) dp) (i + 1) (dt_shu (i + 1) (n - (i + 1)) dp i + 1), upd pc tv (nI qv), upd rt tv r)) D z := by
  refine dt_Cv.ofW (own := RX0) (by decide) rfl (Nat.le_of_ble_eq_true rfl) ?_
  intro p e s m below meth c A ls E hu hl
  have hx := E.1
  have hb := E.2.1
  have hl : lv_has ls 7 [(0, .ref h0), (1, .int x), (2, .int (nI tv)), (3, .int (nI qv)), (4, .int r)] := hl
  refine lv_aload_n hx hb dX0_putKey_0 rfl (lv_at hl 0 rfl) ?_
  refine lv_iload_n hx hb dX0_putKey_1 rfl (lv_at hl 1 rfl) ?_
  refine dt_k0_placeOf E hu (by omega) ⟨by decide, by decide⟩ hl.1 (Nat.le_of_ble_eq_true rfl) ⟨Nat.zero_le _, Nat.zero_le _⟩ dX0_putKey_2 (fun H locs hu => ?_)
  refine dt_tp (show nI (dt_plc sl x n) = nI i from (by rw [hpl])) ?_
  refine lv_iconst (v := 1) hx hb dX0_putKey_5 (by decide) ?_
  refine lv_iadd hx hb dX0_putKey_6 ?_
  refine dt_tp (show nI i + 1 = nI (i + 1) from nI_1 _) ?_
  refine lv_istore (lv' := [(5, .int (nI (i + 1))), (0, .ref h0), (1, .int x), (2, .int (nI tv)), (3, .int (nI qv)), (4, .int r)]) hx hb dX0_putKey_7 hl (by decide) rfl (fun ls hl => ?_)
  refine lv_aload_n hx hb dX0_putKey_9 rfl (lv_at hl 1 rfl) ?_
  refine dt_g0_n E hu dX0_putKey_10 ?_
  refine lv_istore (lv' := [(6, .int (nI n)), (5, .int (nI (i + 1))), (0, .ref h0), (1, .int x), (2, .int (nI tv)), (3, .int (nI qv)), (4, .int r)]) hx hb dX0_putKey_13 hl (by decide) rfl (fun ls hl => ?_)
  have lp : ∀ (dd : Nat) (f g : dt_F) (H : Heap) (locs : List Loc), i + 1 + dd ≤ n → dt_shu (i + 1) dd f = dt_shu (i + 1) (n - (i + 1)) sl → dt_shu (i + 1) dd g = dt_shu (i + 1) (n - (i + 1)) dp → dt_hq D A s (dt_w0 d h0 a (made, n, st, sz, mr, kt, nb, f, g, pc, rt)) H locs → ∀ (ls : Array Slot), lv_has ls 7 [(0, .ref h0), (1, .int x), (2, .int (nI tv)), (3, .int (nI qv)), (4, .int r), (5, .int (nI (i + 1))), (6, .int (nI (i + 1 + dd)))] → W p l e (dt_rm 1 23) s m ([.ref h0, .int x, .int (nI tv), .int (nI qv), .int r] : List Value).toArray below meth c H locs 0 0 (MQ below (dt_QV [(d, .int)] (dt_w0 d h0 a (made, n + 1, st, sz, mr, upd kt qv (kt qv + 1), nb, upd (dt_shu (i + 1) (n - (i + 1)) sl) (i + 1) (nI tv), upd (dt_shu (i + 1) (n - (i + 1)) dp) (i + 1) (dt_shu (i + 1) (n - (i + 1)) dp i + 1), upd pc tv (nI qv), upd rt tv r)) D A) ([.ref h0, .int x, .int (nI tv), .int (nI qv), .int r] : List Value).toArray s 0 0 A) (F0 m 15 ls []) := by
    intro dd
    induction dd with
    | zero =>
      intro f g H locs hk hf hg hu ls hl
      refine lv_iload hx hb dX0_putKey_15 (lv_at hl 6 rfl) ?_
      refine lv_iload hx hb dX0_putKey_17 (lv_at hl 5 rfl) ?_
      refine lv_icmp_le (tgt := 60) hx hb dX0_putKey_19 (by decide) (fun c1 => ?_) (fun c1 => absurd (nI_le (by omega) (by omega)) c1)
      rw [← hf, ← hg]
      refine lv_aload_n hx hb dX0_putKey_60 rfl (lv_at hl 0 rfl) ?_
      refine dt_g0_sl E hu dX0_putKey_61 ?_
      refine lv_iload hx hb dX0_putKey_64 (lv_at hl 5 rfl) ?_
      refine lv_iload_n hx hb dX0_putKey_66 rfl (lv_at hl 2 rfl) ?_
      refine dt_s0_sl E hu (j := i + 1) (x := nI tv) (by omega) dX0_putKey_67 (fun H locs hu => ?_)
      refine lv_aload_n hx hb dX0_putKey_68 rfl (lv_at hl 0 rfl) ?_
      refine dt_g0_dp E hu dX0_putKey_69 ?_
      refine lv_iload hx hb dX0_putKey_72 (lv_at hl 5 rfl) ?_
      refine lv_aload_n hx hb dX0_putKey_74 rfl (lv_at hl 0 rfl) ?_
      refine dt_g0_dp E hu dX0_putKey_75 ?_
      refine lv_iload hx hb dX0_putKey_78 (lv_at hl 5 rfl) ?_
      refine lv_iconst (v := 1) hx hb dX0_putKey_80 (by decide) ?_
      refine lv_isub hx hb dX0_putKey_81 ?_
      refine dt_tp (show nI (i + 1) - 1 = nI i from nI_pred _) ?_
      refine dt_l0_dp E hu (j := i) (by omega) dX0_putKey_82 ?_
      refine lv_iconst (v := 1) hx hb dX0_putKey_83 (by decide) ?_
      refine lv_iadd hx hb dX0_putKey_84 ?_
      refine dt_s0_dp E hu (j := i + 1) (x := (g i) + 1) (by omega) dX0_putKey_85 (fun H locs hu => ?_)
      refine lv_aload_n hx hb dX0_putKey_86 rfl (lv_at hl 0 rfl) ?_
      refine lv_dup hx hb dX0_putKey_87 rfl ?_
      refine dt_g0_n E hu dX0_putKey_88 ?_
      refine lv_iconst (v := 1) hx hb dX0_putKey_91 (by decide) ?_
      refine lv_iadd hx hb dX0_putKey_92 ?_
      refine dt_tp (show nI n + 1 = nI (n + 1) from nI_1 _) ?_
      refine dt_p0_n E hu dX0_putKey_93 (fun H locs hu => ?_)
      refine lv_aload_n hx hb dX0_putKey_96 rfl (lv_at hl 0 rfl) ?_
      refine dt_g0_pc E hu dX0_putKey_97 ?_
      refine lv_iload_n hx hb dX0_putKey_100 rfl (lv_at hl 2 rfl) ?_
      refine lv_iload_n hx hb dX0_putKey_101 rfl (lv_at hl 3 rfl) ?_
      refine dt_s0_pc E hu (j := tv) (x := nI qv) ht dX0_putKey_102 (fun H locs hu => ?_)
      refine lv_aload_n hx hb dX0_putKey_103 rfl (lv_at hl 0 rfl) ?_
      refine dt_g0_rt E hu dX0_putKey_104 ?_
      refine lv_iload_n hx hb dX0_putKey_107 rfl (lv_at hl 2 rfl) ?_
      refine lv_iload hx hb dX0_putKey_108 (lv_at hl 4 rfl) ?_
      refine dt_s0_rt E hu (j := tv) (x := r) ht dX0_putKey_110 (fun H locs hu => ?_)
      refine lv_aload_n hx hb dX0_putKey_111 rfl (lv_at hl 0 rfl) ?_
      refine dt_g0_kt E hu dX0_putKey_112 ?_
      refine lv_iload_n hx hb dX0_putKey_115 rfl (lv_at hl 3 rfl) ?_
      refine lv_dup2_11 hx hb dX0_putKey_116 rfl rfl ?_
      refine dt_l0_kt E hu (j := qv) hq dX0_putKey_117 ?_
      refine lv_iconst (v := 1) hx hb dX0_putKey_118 (by decide) ?_
      refine lv_iadd hx hb dX0_putKey_119 ?_
      refine dt_s0_kt E hu (j := qv) (x := (kt qv) + 1) hq dX0_putKey_120 (fun H locs hu => ?_)
      exact dt_rv E hu dX0_putKey_121
    | succ dd ih =>
      intro f g H locs hk hf hg hu ls hl
      have hl : lv_has ls 7 [(0, .ref h0), (1, .int x), (2, .int (nI tv)), (3, .int (nI qv)), (4, .int r), (5, .int (nI (i + 1))), (6, .int (nI (i + 1 + dd + 1)))] := hl
      refine lv_iload hx hb dX0_putKey_15 (lv_at hl 6 rfl) ?_
      refine lv_iload hx hb dX0_putKey_17 (lv_at hl 5 rfl) ?_
      refine lv_icmp_le (tgt := 60) hx hb dX0_putKey_19 (by decide) (fun c1 => absurd c1 (nI_ge (by omega) (by omega))) (fun c1 => ?_)
      refine lv_aload_n hx hb dX0_putKey_22 rfl (lv_at hl 0 rfl) ?_
      refine dt_g0_sl E hu dX0_putKey_23 ?_
      refine lv_iload hx hb dX0_putKey_26 (lv_at hl 6 rfl) ?_
      refine lv_aload_n hx hb dX0_putKey_28 rfl (lv_at hl 0 rfl) ?_
      refine dt_g0_sl E hu dX0_putKey_29 ?_
      refine lv_iload hx hb dX0_putKey_32 (lv_at hl 6 rfl) ?_
      refine lv_iconst (v := 1) hx hb dX0_putKey_34 (by decide) ?_
      refine lv_isub hx hb dX0_putKey_35 ?_
      refine dt_tp (show nI (i + 1 + dd + 1) - 1 = nI (i + 1 + dd) from nI_pred _) ?_
      refine dt_l0_sl E hu (j := i + 1 + dd) (by omega) dX0_putKey_36 ?_
      refine dt_s0_sl E hu (j := i + 1 + dd + 1) (x := f (i + 1 + dd)) (by omega) dX0_putKey_37 (fun H locs hu => ?_)
      refine lv_aload_n hx hb dX0_putKey_38 rfl (lv_at hl 0 rfl) ?_
      refine dt_g0_dp E hu dX0_putKey_39 ?_
      refine lv_iload hx hb dX0_putKey_42 (lv_at hl 6 rfl) ?_
      refine lv_aload_n hx hb dX0_putKey_44 rfl (lv_at hl 0 rfl) ?_
      refine dt_g0_dp E hu dX0_putKey_45 ?_
      refine lv_iload hx hb dX0_putKey_48 (lv_at hl 6 rfl) ?_
      refine lv_iconst (v := 1) hx hb dX0_putKey_50 (by decide) ?_
      refine lv_isub hx hb dX0_putKey_51 ?_
      refine dt_tp (show nI (i + 1 + dd + 1) - 1 = nI (i + 1 + dd) from nI_pred _) ?_
      refine dt_l0_dp E hu (j := i + 1 + dd) (by omega) dX0_putKey_52 ?_
      refine dt_s0_dp E hu (j := i + 1 + dd + 1) (x := g (i + 1 + dd)) (by omega) dX0_putKey_53 (fun H locs hu => ?_)
      refine lv_iinc (v := nI (i + 1 + dd)) (lv' := [(6, .int (nI (i + 1 + dd))), (0, .ref h0), (1, .int x), (2, .int (nI tv)), (3, .int (nI qv)), (4, .int r), (5, .int (nI (i + 1)))]) hx hb dX0_putKey_54 hl (k := 6) rfl (dt_pred _) (by decide) rfl (fun ls hl => ?_)
      refine lv_goto (tgt := 15) hx hb dX0_putKey_57 (by decide) ?_
      exact ih _ _ H locs (by omega) hf hg hu ls (lv_sub hl [1, 2, 3, 4, 5, 6, 0] rfl)
  exact lp (n - (i + 1)) sl dp H locs (by omega) rfl rfl hu ls (by rw [show i + 1 + (n - (i + 1)) = n by omega]; exact lv_sub hl [2, 3, 4, 5, 6, 1, 0] rfl)

section DTK_0_putKey
variable {p : Program} {l : Launch} {e : Env} {R : Room} {s : State} {m : MethodId} {args : Array Value} {below : List Frame} {meth : Method} {c : Code} {H : Heap} {locs : List Loc} {cells slots : Nat} {Q : State → Prop}
variable {cc : ByteArray} {nL : Nat} {own : String} {rty : Option FieldType} {D : va_G} {A : Nat → Prop} {pw : Nat} {ls : Array Slot} {rest : List Value} {d dz : ClassId} {h0 : Nat} {a : Nat → Nat}
theorem dt_k0_putKey {made : Int32} {n : Nat} {st sz mr kt nb sl dp pc rt : dt_F} {x : Int32} {tv qv : Nat} {r : Int32} {i : Nat} (E : dt_ev p s m args meth c cc nL RX0 rty D [(d, .int)]) (h : dt_hq D A s (dt_w0 d h0 a (made, n, st, sz, mr, kt, nb, sl, dp, pc, rt)) H locs) (hpl : dt_plc sl x n = i) (hi : i < n) (hn : n < 16) (ht : tv < 16) (hq : qv < 16) (hR : ((dt_rm 1 23)).frames + 1 ≤ R.frames ∧ 8 + (7 + 11) + ((dt_rm 1 23)).locals ≤ R.locals) (hsz : ls.size = nL) (hroom : (rest.map fun v => v.category).sum ≤ 8) (hf : cells ≤ R.cells ∧ slots ≤ R.slots) (hdg : decode cc pw = .ok (.invokevirtual 55, 3)) (kk : ∀ (H1 : Heap) (locs1 : List Loc), dt_hq D A s (dt_w0 d h0 a (made, n + 1, st, sz, mr, upd kt qv (kt qv + 1), nb, upd (dt_shu (i + 1) (n - (i + 1)) sl) (i + 1) (nI tv), upd (dt_shu (i + 1) (n - (i + 1)) dp) (i + 1) (dt_shu (i + 1) (n - (i + 1)) dp i + 1), upd pc tv (nI qv), upd rt tv r)) H1 locs1 → W p l e R s m args below meth c H1 locs1 cells slots Q (F0 m (pw + 3) ls rest)) : W p l e R s m args below meth c H locs cells slots Q (F0 m pw ls (.int r :: .int (nI qv) :: .int (nI tv) :: .int x :: .ref h0 :: rest)) :=
  dt_c0v (As := [.int x, .int (nI tv), .int (nI qv), .int r]) (nA := 4) E h (m0_putKey l D d h0 a H.size made n st sz mr kt nb sl dp pc rt x tv qv r i hpl hi hn ht hq) (lw_V q80 q82 qs3 q19 q83) rfl (by decide +kernel) hR ⟨rfl, rfl⟩ hsz rfl hroom hdg hf kk
end DTK_0_putKey

set_option maxHeartbeats 4000000 in
set_option maxRecDepth 100000 in
theorem m0_cutRow (l : Launch) (D : va_G) (d : ClassId) (h0 : Nat) (a : Nat → Nat) (z : Nat) (made : Int32) (n : Nat) (st sz mr kt nb sl dp pc rt : dt_F) (i g : Nat) (hg : i + g ≤ n) (hn : n ≤ 16) : dt_Cv l yX0_cutRow cX0_cutRow 5 (dt_rm 0 0) [(d, .int)] [.ref h0, .int (nI i), .int (nI (i + g))] (dt_w0 d h0 a (made, n, st, sz, mr, kt, nb, sl, dp, pc, rt)) (dt_w0 d h0 a (made, n - g, st, sz, mr, kt, nb, dt_shd g (n - (i + g)) (i + g) sl, dt_shd g (n - (i + g)) (i + g) dp, pc, rt)) D z := by
  refine dt_Cv.ofW (own := RX0) (by decide) rfl (Nat.le_of_ble_eq_true rfl) ?_
  intro p e s m below meth c A ls E hu hl
  have hx := E.1
  have hb := E.2.1
  have hl : lv_has ls 5 [(0, .ref h0), (1, .int (nI i)), (2, .int (nI (i + g)))] := hl
  refine lv_iload_n hx hb dX0_cutRow_0 rfl (lv_at hl 2 rfl) ?_
  refine lv_iload_n hx hb dX0_cutRow_1 rfl (lv_at hl 1 rfl) ?_
  refine lv_isub hx hb dX0_cutRow_2 ?_
  refine dt_tp (show nI (i + g) - nI i = nI g from dt_subg i g) ?_
  refine lv_istore_n (lv' := [(3, .int (nI g)), (0, .ref h0), (1, .int (nI i)), (2, .int (nI (i + g)))]) hx hb dX0_cutRow_3 rfl hl (by decide) rfl (fun ls hl => ?_)
  refine lv_iload_n hx hb dX0_cutRow_4 rfl (lv_at hl 3 rfl) ?_
  refine lv_istore (lv' := [(4, .int (nI (i + g))), (3, .int (nI g)), (0, .ref h0), (1, .int (nI i)), (2, .int (nI (i + g)))]) hx hb dX0_cutRow_5 hl (by decide) rfl (fun ls hl => ?_)
  have lp : ∀ (dd : Nat) (k : Nat) (f f2 : dt_F) (H : Heap) (locs : List Loc), k + dd = n → i + g ≤ k → dt_shd g dd k f = dt_shd g (n - (i + g)) (i + g) sl → dt_shd g dd k f2 = dt_shd g (n - (i + g)) (i + g) dp → dt_hq D A s (dt_w0 d h0 a (made, n, st, sz, mr, kt, nb, f, f2, pc, rt)) H locs → ∀ (ls : Array Slot), lv_has ls 5 [(0, .ref h0), (1, .int (nI i)), (2, .int (nI (i + g))), (3, .int (nI g)), (4, .int (nI k))] → W p l e (dt_rm 0 0) s m ([.ref h0, .int (nI i), .int (nI (i + g))] : List Value).toArray below meth c H locs 0 0 (MQ below (dt_QV [(d, .int)] (dt_w0 d h0 a (made, n - g, st, sz, mr, kt, nb, dt_shd g (n - (i + g)) (i + g) sl, dt_shd g (n - (i + g)) (i + g) dp, pc, rt)) D A) ([.ref h0, .int (nI i), .int (nI (i + g))] : List Value).toArray s 0 0 A) (F0 m 7 ls []) := by
    intro dd
    induction dd with
    | zero =>
      intro k f f2 H locs hk hik hf hf2 hu ls hl
      refine lv_iload hx hb dX0_cutRow_7 (lv_at hl 4 rfl) ?_
      refine lv_aload_n hx hb dX0_cutRow_9 rfl (lv_at hl 0 rfl) ?_
      refine dt_g0_n E hu dX0_cutRow_10 ?_
      refine lv_icmp_ge (tgt := 54) hx hb dX0_cutRow_13 (by decide) (fun c1 => ?_) (fun c1 => absurd (nI_le (by omega) (by omega)) c1)
      rw [← hf, ← hf2]
      refine lv_aload_n hx hb dX0_cutRow_54 rfl (lv_at hl 0 rfl) ?_
      refine lv_dup hx hb dX0_cutRow_55 rfl ?_
      refine dt_g0_n E hu dX0_cutRow_56 ?_
      refine lv_iload_n hx hb dX0_cutRow_59 rfl (lv_at hl 3 rfl) ?_
      refine lv_isub hx hb dX0_cutRow_60 ?_
      refine dt_tp (show nI n - nI g = nI (n - g) from pk_sub (by omega)) ?_
      refine dt_p0_n E hu dX0_cutRow_61 (fun H locs hu => ?_)
      exact dt_rv E hu dX0_cutRow_64
    | succ dd ih =>
      intro k f f2 H locs hk hik hf hf2 hu ls hl
      refine lv_iload hx hb dX0_cutRow_7 (lv_at hl 4 rfl) ?_
      refine lv_aload_n hx hb dX0_cutRow_9 rfl (lv_at hl 0 rfl) ?_
      refine dt_g0_n E hu dX0_cutRow_10 ?_
      refine lv_icmp_ge (tgt := 54) hx hb dX0_cutRow_13 (by decide) (fun c1 => absurd c1 (nI_ge (by omega) (by omega))) (fun c1 => ?_)
      refine lv_aload_n hx hb dX0_cutRow_16 rfl (lv_at hl 0 rfl) ?_
      refine dt_g0_sl E hu dX0_cutRow_17 ?_
      refine lv_iload hx hb dX0_cutRow_20 (lv_at hl 4 rfl) ?_
      refine lv_iload_n hx hb dX0_cutRow_22 rfl (lv_at hl 3 rfl) ?_
      refine lv_isub hx hb dX0_cutRow_23 ?_
      refine dt_tp (show nI k - nI g = nI (k - g) from pk_sub (by omega)) ?_
      refine lv_aload_n hx hb dX0_cutRow_24 rfl (lv_at hl 0 rfl) ?_
      refine dt_g0_sl E hu dX0_cutRow_25 ?_
      refine lv_iload hx hb dX0_cutRow_28 (lv_at hl 4 rfl) ?_
      refine dt_l0_sl E hu (j := k) (by omega) dX0_cutRow_30 ?_
      refine dt_s0_sl E hu (j := k - g) (x := f k) (by omega) dX0_cutRow_31 (fun H locs hu => ?_)
      refine lv_aload_n hx hb dX0_cutRow_32 rfl (lv_at hl 0 rfl) ?_
      refine dt_g0_dp E hu dX0_cutRow_33 ?_
      refine lv_iload hx hb dX0_cutRow_36 (lv_at hl 4 rfl) ?_
      refine lv_iload_n hx hb dX0_cutRow_38 rfl (lv_at hl 3 rfl) ?_
      refine lv_isub hx hb dX0_cutRow_39 ?_
      refine dt_tp (show nI k - nI g = nI (k - g) from pk_sub (by omega)) ?_
      refine lv_aload_n hx hb dX0_cutRow_40 rfl (lv_at hl 0 rfl) ?_
      refine dt_g0_dp E hu dX0_cutRow_41 ?_
      refine lv_iload hx hb dX0_cutRow_44 (lv_at hl 4 rfl) ?_
      refine dt_l0_dp E hu (j := k) (by omega) dX0_cutRow_46 ?_
      refine dt_s0_dp E hu (j := k - g) (x := f2 k) (by omega) dX0_cutRow_47 (fun H locs hu => ?_)
      refine lv_iinc (v := nI (k + 1)) (lv' := [(4, .int (nI (k + 1))), (0, .ref h0), (1, .int (nI i)), (2, .int (nI (i + g))), (3, .int (nI g))]) hx hb dX0_cutRow_48 hl (k := 4) rfl (dt_inc _) (by decide) rfl (fun ls hl => ?_)
      refine lv_goto (tgt := 7) hx hb dX0_cutRow_51 (by decide) ?_
      exact ih (k + 1) _ _ H locs (by omega) (by omega) hf hf2 hu ls (lv_sub hl [1, 2, 3, 4, 0] rfl)
  exact lp (n - (i + g)) (i + g) sl dp _ _ (by omega) (by omega) rfl rfl hu ls (lv_sub hl [2, 3, 4, 1, 0] rfl)

section DTK_0_cutRow
variable {p : Program} {l : Launch} {e : Env} {R : Room} {s : State} {m : MethodId} {args : Array Value} {below : List Frame} {meth : Method} {c : Code} {H : Heap} {locs : List Loc} {cells slots : Nat} {Q : State → Prop}
variable {cc : ByteArray} {nL : Nat} {own : String} {rty : Option FieldType} {D : va_G} {A : Nat → Prop} {pw : Nat} {ls : Array Slot} {rest : List Value} {d dz : ClassId} {h0 : Nat} {a : Nat → Nat}
theorem dt_k0_cutRow {made : Int32} {n : Nat} {st sz mr kt nb sl dp pc rt : dt_F} {i g : Nat} (E : dt_ev p s m args meth c cc nL RX0 rty D [(d, .int)]) (h : dt_hq D A s (dt_w0 d h0 a (made, n, st, sz, mr, kt, nb, sl, dp, pc, rt)) H locs) (hg : i + g ≤ n) (hn : n ≤ 16) (hR : ((dt_rm 0 0)).frames + 1 ≤ R.frames ∧ 8 + (5 + 11) + ((dt_rm 0 0)).locals ≤ R.locals) (hsz : ls.size = nL) (hroom : (rest.map fun v => v.category).sum ≤ 8) (hf : cells ≤ R.cells ∧ slots ≤ R.slots) (hdg : decode cc pw = .ok (.invokevirtual 70, 3)) (kk : ∀ (H1 : Heap) (locs1 : List Loc), dt_hq D A s (dt_w0 d h0 a (made, n - g, st, sz, mr, kt, nb, dt_shd g (n - (i + g)) (i + g) sl, dt_shd g (n - (i + g)) (i + g) dp, pc, rt)) H1 locs1 → W p l e R s m args below meth c H1 locs1 cells slots Q (F0 m (pw + 3) ls rest)) : W p l e R s m args below meth c H locs cells slots Q (F0 m pw ls (.int (nI (i + g)) :: .int (nI i) :: .ref h0 :: rest)) :=
  dt_c0v (As := [.int (nI i), .int (nI (i + g))]) (nA := 2) E h (m0_cutRow l D d h0 a H.size made n st sz mr kt nb sl dp pc rt i g hg hn) (lw_V q108 q110 qs7 q19 q111) rfl (by decide +kernel) hR ⟨rfl, rfl⟩ hsz rfl hroom hdg hf kk
end DTK_0_cutRow

set_option maxHeartbeats 4000000 in
set_option maxRecDepth 100000 in
theorem m0_resetMarks (l : Launch) (D : va_G) (d : ClassId) (h0 : Nat) (a : Nat → Nat) (z : Nat) (made : Int32) (n : Nat) (st sz mr kt nb sl dp pc rt : dt_F)   : dt_Cv l yX0_resetMarks cX0_resetMarks 2 (dt_rm 1 23) [(d, .int)] [.ref h0] (dt_w0 d h0 a (made, n, st, sz, mr, kt, nb, sl, dp, pc, rt)) (dt_w0 d h0 a (made, n, st, sz, dt_rs st sz kt nb 16 0 mr, kt, nb, sl, dp, pc, rt)) D z := by
  refine dt_Cv.ofW (own := RX0) (by decide) rfl (Nat.le_of_ble_eq_true rfl) ?_
  intro p e s m below meth c A ls E hu hl
  have hx := E.1
  have hb := E.2.1
  have hl : lv_has ls 2 [(0, .ref h0)] := hl
  refine lv_iconst (v := nI 0) hx hb dX0_resetMarks_0 (by decide) ?_
  refine lv_istore_n (lv' := [(1, .int (nI 0)), (0, .ref h0)]) hx hb dX0_resetMarks_1 rfl hl (by decide) rfl (fun ls hl => ?_)
  have lp : ∀ (dd : Nat) (k : Nat) (f : dt_F) (H : Heap) (locs : List Loc), k + dd = 16 → dt_rs st sz kt nb dd k f = dt_rs st sz kt nb 16 0 mr → dt_hq D A s (dt_w0 d h0 a (made, n, st, sz, f, kt, nb, sl, dp, pc, rt)) H locs → ∀ (ls : Array Slot), lv_has ls 2 [(0, .ref h0), (1, .int (nI k))] → W p l e (dt_rm 1 23) s m ([.ref h0] : List Value).toArray below meth c H locs 0 0 (MQ below (dt_QV [(d, .int)] (dt_w0 d h0 a (made, n, st, sz, dt_rs st sz kt nb 16 0 mr, kt, nb, sl, dp, pc, rt)) D A) ([.ref h0] : List Value).toArray s 0 0 A) (F0 m 2 ls []) := by
    intro dd
    induction dd with
    | zero =>
      intro k f H locs hk hf hu ls hl
      refine lv_iload_n hx hb dX0_resetMarks_2 rfl (lv_at hl 1 rfl) ?_
      refine lv_bipush (v := nI 16) hx hb dX0_resetMarks_3 (by decide) ?_
      refine lv_icmp_ge (tgt := 47) hx hb dX0_resetMarks_5 (by decide) (fun c1 => ?_) (fun c1 => absurd (nI_le (by omega) (by omega)) c1)
      rw [← hf]
      exact dt_rv E hu dX0_resetMarks_47
    | succ dd ih =>
      intro k f H locs hk hf hu ls hl
      refine lv_iload_n hx hb dX0_resetMarks_2 rfl (lv_at hl 1 rfl) ?_
      refine lv_bipush (v := nI 16) hx hb dX0_resetMarks_3 (by decide) ?_
      refine lv_icmp_ge (tgt := 47) hx hb dX0_resetMarks_5 (by decide) (fun c1 => absurd c1 (nI_ge (by omega) (by omega))) (fun c1 => ?_)
      refine lv_aload_n hx hb dX0_resetMarks_8 rfl (lv_at hl 0 rfl) ?_
      refine dt_g0_kt E hu dX0_resetMarks_9 ?_
      refine lv_iload_n hx hb dX0_resetMarks_12 rfl (lv_at hl 1 rfl) ?_
      refine dt_l0_kt E hu (j := k) (by omega) dX0_resetMarks_13 ?_
      refine lv_if_le (tgt := 41) hx hb dX0_resetMarks_14 (by decide) (fun c2 => ?_) (fun c2 => ?_)
      · refine lv_iinc (v := nI (k + 1)) (lv' := [(1, .int (nI (k + 1))), (0, .ref h0)]) hx hb dX0_resetMarks_41 hl (k := 1) rfl (dt_inc _) (by decide) rfl (fun ls hl => ?_)
        refine lv_goto (tgt := 2) hx hb dX0_resetMarks_44 (by decide) ?_
        exact ih (k + 1) f H locs (by omega) (by rw [← hf]; show _ = dt_rs st sz kt nb dd (k + 1) (if 0 < kt k ∧ 0 < f k ∧ dt_ho st sz kt nb k 16 0 = false then upd f k 0 else f); rw [if_neg (fun q => Int32.not_lt.mpr c2 q.1)]) hu ls (lv_sub hl [1, 0] rfl)
      · refine lv_aload_n hx hb dX0_resetMarks_17 rfl (lv_at hl 0 rfl) ?_
        refine dt_g0_mr E hu dX0_resetMarks_18 ?_
        refine lv_iload_n hx hb dX0_resetMarks_21 rfl (lv_at hl 1 rfl) ?_
        refine dt_l0_mr E hu (j := k) (by omega) dX0_resetMarks_22 ?_
        refine lv_if_le (tgt := 41) hx hb dX0_resetMarks_23 (by decide) (fun c3 => ?_) (fun c3 => ?_)
        · refine lv_iinc (v := nI (k + 1)) (lv' := [(1, .int (nI (k + 1))), (0, .ref h0)]) hx hb dX0_resetMarks_41 hl (k := 1) rfl (dt_inc _) (by decide) rfl (fun ls hl => ?_)
          refine lv_goto (tgt := 2) hx hb dX0_resetMarks_44 (by decide) ?_
          exact ih (k + 1) f H locs (by omega) (by rw [← hf]; show _ = dt_rs st sz kt nb dd (k + 1) (if 0 < kt k ∧ 0 < f k ∧ dt_ho st sz kt nb k 16 0 = false then upd f k 0 else f); rw [if_neg (fun q => Int32.not_lt.mpr c3 q.2.1)]) hu ls (lv_sub hl [1, 0] rfl)
        · refine lv_aload_n hx hb dX0_resetMarks_26 rfl (lv_at hl 0 rfl) ?_
          refine lv_iload_n hx hb dX0_resetMarks_27 rfl (lv_at hl 1 rfl) ?_
          refine dt_k0_holdsOthers E hu (by omega) ⟨by decide, by decide⟩ hl.1 (Nat.le_of_ble_eq_true rfl) ⟨Nat.zero_le _, Nat.zero_le _⟩ dX0_resetMarks_28 (fun H locs hu => ?_)
          refine lv_if_ne (tgt := 41) hx hb dX0_resetMarks_31 (by decide) (fun c4 => ?_) (fun c4 => ?_)
          · refine lv_iinc (v := nI (k + 1)) (lv' := [(1, .int (nI (k + 1))), (0, .ref h0)]) hx hb dX0_resetMarks_41 hl (k := 1) rfl (dt_inc _) (by decide) rfl (fun ls hl => ?_)
            refine lv_goto (tgt := 2) hx hb dX0_resetMarks_44 (by decide) ?_
            exact ih (k + 1) f H locs (by omega) (by rw [← hf]; show _ = dt_rs st sz kt nb dd (k + 1) (if 0 < kt k ∧ 0 < f k ∧ dt_ho st sz kt nb k 16 0 = false then upd f k 0 else f); rw [if_neg (fun q => by have h9 := dt_b_t.mp c4; rw [q.2.2] at h9; cases h9)]) hu ls (lv_sub hl [1, 0] rfl)
          · refine lv_aload_n hx hb dX0_resetMarks_34 rfl (lv_at hl 0 rfl) ?_
            refine dt_g0_mr E hu dX0_resetMarks_35 ?_
            refine lv_iload_n hx hb dX0_resetMarks_38 rfl (lv_at hl 1 rfl) ?_
            refine lv_iconst (v := 0) hx hb dX0_resetMarks_39 (by decide) ?_
            refine dt_s0_mr E hu (j := k) (x := 0) (by omega) dX0_resetMarks_40 (fun H locs hu => ?_)
            refine lv_iinc (v := nI (k + 1)) (lv' := [(1, .int (nI (k + 1))), (0, .ref h0)]) hx hb dX0_resetMarks_41 hl (k := 1) rfl (dt_inc _) (by decide) rfl (fun ls hl => ?_)
            refine lv_goto (tgt := 2) hx hb dX0_resetMarks_44 (by decide) ?_
            exact ih (k + 1) (upd f k 0) H locs (by omega) (by rw [← hf]; show _ = dt_rs st sz kt nb dd (k + 1) (if 0 < kt k ∧ 0 < f k ∧ dt_ho st sz kt nb k 16 0 = false then upd f k 0 else f); rw [if_pos ⟨Int32.not_le.mp c2, Int32.not_le.mp c3, dt_b_f.mp c4⟩]) hu ls (lv_sub hl [1, 0] rfl)
  exact lp 16 0 mr _ _ (by omega) rfl hu ls (lv_sub hl [1, 0] rfl)

section DTK_0_resetMarks
variable {p : Program} {l : Launch} {e : Env} {R : Room} {s : State} {m : MethodId} {args : Array Value} {below : List Frame} {meth : Method} {c : Code} {H : Heap} {locs : List Loc} {cells slots : Nat} {Q : State → Prop}
variable {cc : ByteArray} {nL : Nat} {own : String} {rty : Option FieldType} {D : va_G} {A : Nat → Prop} {pw : Nat} {ls : Array Slot} {rest : List Value} {d dz : ClassId} {h0 : Nat} {a : Nat → Nat}
theorem dt_k0_resetMarks {made : Int32} {n : Nat} {st sz mr kt nb sl dp pc rt : dt_F}  (E : dt_ev p s m args meth c cc nL RX0 rty D [(d, .int)]) (h : dt_hq D A s (dt_w0 d h0 a (made, n, st, sz, mr, kt, nb, sl, dp, pc, rt)) H locs)  (hR : ((dt_rm 1 23)).frames + 1 ≤ R.frames ∧ 8 + (2 + 11) + ((dt_rm 1 23)).locals ≤ R.locals) (hsz : ls.size = nL) (hroom : (rest.map fun v => v.category).sum ≤ 8) (hf : cells ≤ R.cells ∧ slots ≤ R.slots) (hdg : decode cc pw = .ok (.invokevirtual 74, 3)) (kk : ∀ (H1 : Heap) (locs1 : List Loc), dt_hq D A s (dt_w0 d h0 a (made, n, st, sz, dt_rs st sz kt nb 16 0 mr, kt, nb, sl, dp, pc, rt)) H1 locs1 → W p l e R s m args below meth c H1 locs1 cells slots Q (F0 m (pw + 3) ls rest)) : W p l e R s m args below meth c H locs cells slots Q (F0 m pw ls (.ref h0 :: rest)) :=
  dt_c0v (As := []) (nA := 0) E h (m0_resetMarks l D d h0 a H.size made n st sz mr kt nb sl dp pc rt ) (lw_V q112 q114 qs8 q19 q115) rfl (by decide +kernel) hR ⟨rfl, rfl⟩ hsz rfl hroom hdg hf kk
end DTK_0_resetMarks
end
section
set_option maxRecDepth 100000
theorem dt_sub1 {e i : Nat} (h : i < e) : nI e - nI i - 1 = nI (e - (i + 1)) := by
  rw [pk_sub (by omega), show (1 : Int32) = nI 1 from rfl, pk_sub (by omega), show e - i - 1 = e - (i + 1) by omega]

set_option maxHeartbeats 4000000 in
set_option maxRecDepth 100000 in
theorem m0_piece (l : Launch) (D : va_G) (d : ClassId) (h0 : Nat) (a : Nat → Nat) (z : Nat) (made : Int32) (n : Nat) (st sz mr kt nb sl dp pc rt : dt_F) (x : Int32) (hW : dt_W0 (made, n, st, sz, mr, kt, nb, sl, dp, pc, rt)) : dt_Ci l yX0_piece cX0_piece 2 (some .int) (dt_rm 1 21) [(d, .int)] [.ref h0, .int x] (dt_w0 d h0 a (made, n, st, sz, mr, kt, nb, sl, dp, pc, rt)) (dt_w0 d h0 a (made, n, st, sz, mr, kt, nb, sl, dp, pc, rt)) (dt_piece (made, n, st, sz, mr, kt, nb, sl, dp, pc, rt) x) D z := by
  refine dt_Ci.ofW (own := RX0) (by decide) rfl (Nat.le_of_ble_eq_true rfl) ?_
  intro p e s m below meth c A ls E hu hl
  have hx := E.1
  have hb := E.2.1
  have hl : lv_has ls 2 [(0, .ref h0), (1, .int x)] := hl
  refine lv_aload_n hx hb dX0_piece_0 rfl (lv_at hl 0 rfl) ?_
  refine lv_iload_n hx hb dX0_piece_1 rfl (lv_at hl 1 rfl) ?_
  refine dt_k0_isHeld E hu  ⟨by decide, by decide⟩ hl.1 (Nat.le_of_ble_eq_true rfl) ⟨Nat.zero_le _, Nat.zero_le _⟩ dX0_piece_2 (fun H locs hu => ?_)
  refine lv_if_eq (tgt := 37) hx hb dX0_piece_5 (by decide) (fun c1 => ?_) (fun c1 => ?_)
  · refine lv_iconst (v := (-1)) hx hb dX0_piece_37 (by decide) ?_
    rw [show dt_piece (made, n, st, sz, mr, kt, nb, sl, dp, pc, rt) x = -1 from dt_piece_no (by rw [dt_b_f.mp c1]; decide)]
    exact dt_ri E hu dX0_piece_38
  · have hh := dt_b_t.mp c1
    obtain ⟨sv, pv, i, hs, rfl, hp, hpq, hi, hpl⟩ := dt_W0_held hW hh
    rw [show dt_piece (made, n, st, sz, mr, kt, nb, sl, dp, pc, rt) (nI sv) = _ from dt_piece_yes hh hs hp hpq]
    refine lv_bipush (v := 100) hx hb dX0_piece_8 (by decide) ?_
    refine lv_aload_n hx hb dX0_piece_10 rfl (lv_at hl 0 rfl) ?_
    refine dt_g0_st E hu dX0_piece_11 ?_
    refine lv_aload_n hx hb dX0_piece_14 rfl (lv_at hl 0 rfl) ?_
    refine dt_g0_pc E hu dX0_piece_15 ?_
    refine lv_iload_n hx hb dX0_piece_18 rfl (lv_at hl 1 rfl) ?_
    refine dt_l0_pc E hu (j := sv) (by omega) dX0_piece_19 ?_
    refine dt_tp (show pc sv = nI pv from hpq) ?_
    refine dt_l0_st E hu (j := pv) (by omega) dX0_piece_20 ?_
    refine lv_imul hx hb dX0_piece_21 ?_
    refine lv_aload_n hx hb dX0_piece_22 rfl (lv_at hl 0 rfl) ?_
    refine dt_g0_sz E hu dX0_piece_23 ?_
    refine lv_aload_n hx hb dX0_piece_26 rfl (lv_at hl 0 rfl) ?_
    refine dt_g0_pc E hu dX0_piece_27 ?_
    refine lv_iload_n hx hb dX0_piece_30 rfl (lv_at hl 1 rfl) ?_
    refine dt_l0_pc E hu (j := sv) (by omega) dX0_piece_31 ?_
    refine dt_tp (show pc sv = nI pv from hpq) ?_
    refine dt_l0_sz E hu (j := pv) (by omega) dX0_piece_32 ?_
    refine lv_iadd hx hb dX0_piece_33 ?_
    refine lv_goto (tgt := 38) hx hb dX0_piece_34 (by decide) ?_
    exact dt_ri E hu dX0_piece_38

set_option maxHeartbeats 4000000 in
set_option maxRecDepth 100000 in
theorem m0_rights (l : Launch) (D : va_G) (d : ClassId) (h0 : Nat) (a : Nat → Nat) (z : Nat) (made : Int32) (n : Nat) (st sz mr kt nb sl dp pc rt : dt_F) (x : Int32) (hW : dt_W0 (made, n, st, sz, mr, kt, nb, sl, dp, pc, rt)) : dt_Ci l yX0_rights cX0_rights 2 (some .int) (dt_rm 1 21) [(d, .int)] [.ref h0, .int x] (dt_w0 d h0 a (made, n, st, sz, mr, kt, nb, sl, dp, pc, rt)) (dt_w0 d h0 a (made, n, st, sz, mr, kt, nb, sl, dp, pc, rt)) (dt_rights (made, n, st, sz, mr, kt, nb, sl, dp, pc, rt) x) D z := by
  refine dt_Ci.ofW (own := RX0) (by decide) rfl (Nat.le_of_ble_eq_true rfl) ?_
  intro p e s m below meth c A ls E hu hl
  have hx := E.1
  have hb := E.2.1
  have hl : lv_has ls 2 [(0, .ref h0), (1, .int x)] := hl
  refine lv_aload_n hx hb dX0_rights_0 rfl (lv_at hl 0 rfl) ?_
  refine lv_iload_n hx hb dX0_rights_1 rfl (lv_at hl 1 rfl) ?_
  refine dt_k0_isHeld E hu  ⟨by decide, by decide⟩ hl.1 (Nat.le_of_ble_eq_true rfl) ⟨Nat.zero_le _, Nat.zero_le _⟩ dX0_rights_2 (fun H locs hu => ?_)
  refine lv_if_eq (tgt := 17) hx hb dX0_rights_5 (by decide) (fun c1 => ?_) (fun c1 => ?_)
  · refine lv_iconst (v := (-1)) hx hb dX0_rights_17 (by decide) ?_
    rw [show dt_rights (made, n, st, sz, mr, kt, nb, sl, dp, pc, rt) x = -1 from dt_rights_no (by rw [dt_b_f.mp c1]; decide)]
    exact dt_ri E hu dX0_rights_18
  · have hh := dt_b_t.mp c1
    obtain ⟨sv, pv, i, hs, rfl, hp, hpq, hi, hpl⟩ := dt_W0_held hW hh
    rw [show dt_rights (made, n, st, sz, mr, kt, nb, sl, dp, pc, rt) (nI sv) = _ from dt_rights_yes hh hs]
    refine lv_aload_n hx hb dX0_rights_8 rfl (lv_at hl 0 rfl) ?_
    refine dt_g0_rt E hu dX0_rights_9 ?_
    refine lv_iload_n hx hb dX0_rights_12 rfl (lv_at hl 1 rfl) ?_
    refine dt_l0_rt E hu (j := sv) (by omega) dX0_rights_13 ?_
    refine lv_goto (tgt := 18) hx hb dX0_rights_14 (by decide) ?_
    exact dt_ri E hu dX0_rights_18

set_option maxHeartbeats 4000000 in
set_option maxRecDepth 100000 in
theorem m0_room (l : Launch) (D : va_G) (d : ClassId) (h0 : Nat) (a : Nat → Nat) (z : Nat) (made : Int32) (n : Nat) (st sz mr kt nb sl dp pc rt : dt_F) (x : Int32) (hW : dt_W0 (made, n, st, sz, mr, kt, nb, sl, dp, pc, rt)) : dt_Ci l yX0_room cX0_room 2 (some .int) (dt_rm 1 21) [(d, .int)] [.ref h0, .int x] (dt_w0 d h0 a (made, n, st, sz, mr, kt, nb, sl, dp, pc, rt)) (dt_w0 d h0 a (made, n, st, sz, mr, kt, nb, sl, dp, pc, rt)) (dt_room (made, n, st, sz, mr, kt, nb, sl, dp, pc, rt) x) D z := by
  refine dt_Ci.ofW (own := RX0) (by decide) rfl (Nat.le_of_ble_eq_true rfl) ?_
  intro p e s m below meth c A ls E hu hl
  have hx := E.1
  have hb := E.2.1
  have hl : lv_has ls 2 [(0, .ref h0), (1, .int x)] := hl
  refine lv_aload_n hx hb dX0_room_0 rfl (lv_at hl 0 rfl) ?_
  refine lv_iload_n hx hb dX0_room_1 rfl (lv_at hl 1 rfl) ?_
  refine dt_k0_isHeld E hu  ⟨by decide, by decide⟩ hl.1 (Nat.le_of_ble_eq_true rfl) ⟨Nat.zero_le _, Nat.zero_le _⟩ dX0_room_2 (fun H locs hu => ?_)
  refine lv_if_eq (tgt := 34) hx hb dX0_room_5 (by decide) (fun c1 => ?_) (fun c1 => ?_)
  · refine lv_iconst (v := (-1)) hx hb dX0_room_34 (by decide) ?_
    rw [show dt_room (made, n, st, sz, mr, kt, nb, sl, dp, pc, rt) x = -1 from dt_room_no (by rw [dt_b_f.mp c1]; decide)]
    exact dt_ri E hu dX0_room_35
  · have hh := dt_b_t.mp c1
    obtain ⟨sv, pv, i, hs, rfl, hp, hpq, hi, hpl⟩ := dt_W0_held hW hh
    rw [show dt_room (made, n, st, sz, mr, kt, nb, sl, dp, pc, rt) (nI sv) = _ from dt_room_yes hh hs hp hpq]
    refine lv_aload_n hx hb dX0_room_8 rfl (lv_at hl 0 rfl) ?_
    refine dt_g0_sz E hu dX0_room_9 ?_
    refine lv_aload_n hx hb dX0_room_12 rfl (lv_at hl 0 rfl) ?_
    refine dt_g0_pc E hu dX0_room_13 ?_
    refine lv_iload_n hx hb dX0_room_16 rfl (lv_at hl 1 rfl) ?_
    refine dt_l0_pc E hu (j := sv) (by omega) dX0_room_17 ?_
    refine dt_tp (show pc sv = nI pv from hpq) ?_
    refine dt_l0_sz E hu (j := pv) (by omega) dX0_room_18 ?_
    refine lv_aload_n hx hb dX0_room_19 rfl (lv_at hl 0 rfl) ?_
    refine dt_g0_mr E hu dX0_room_20 ?_
    refine lv_aload_n hx hb dX0_room_23 rfl (lv_at hl 0 rfl) ?_
    refine dt_g0_pc E hu dX0_room_24 ?_
    refine lv_iload_n hx hb dX0_room_27 rfl (lv_at hl 1 rfl) ?_
    refine dt_l0_pc E hu (j := sv) (by omega) dX0_room_28 ?_
    refine dt_tp (show pc sv = nI pv from hpq) ?_
    refine dt_l0_mr E hu (j := pv) (by omega) dX0_room_29 ?_
    refine lv_isub hx hb dX0_room_30 ?_
    refine lv_goto (tgt := 35) hx hb dX0_room_31 (by decide) ?_
    exact dt_ri E hu dX0_room_35

set_option maxHeartbeats 4000000 in
set_option maxRecDepth 100000 in
theorem m0_keys (l : Launch) (D : va_G) (d : ClassId) (h0 : Nat) (a : Nat → Nat) (z : Nat) (made : Int32) (n : Nat) (st sz mr kt nb sl dp pc rt : dt_F)   : dt_Ci l yX0_keys cX0_keys 1 (some .int) (dt_rm 0 0) [(d, .int)] [.ref h0] (dt_w0 d h0 a (made, n, st, sz, mr, kt, nb, sl, dp, pc, rt)) (dt_w0 d h0 a (made, n, st, sz, mr, kt, nb, sl, dp, pc, rt)) (dt_keys (made, n, st, sz, mr, kt, nb, sl, dp, pc, rt)) D z := by
  refine dt_Ci.ofW (own := RX0) (by decide) rfl (Nat.le_of_ble_eq_true rfl) ?_
  intro p e s m below meth c A ls E hu hl
  have hx := E.1
  have hb := E.2.1
  have hl : lv_has ls 1 [(0, .ref h0)] := hl
  refine lv_aload_n hx hb dX0_keys_0 rfl (lv_at hl 0 rfl) ?_
  refine dt_g0_n E hu dX0_keys_1 ?_
  exact dt_ri E hu dX0_keys_4

set_option maxHeartbeats 4000000 in
set_option maxRecDepth 100000 in
theorem m0_descendants (l : Launch) (D : va_G) (d : ClassId) (h0 : Nat) (a : Nat → Nat) (z : Nat) (made : Int32) (n : Nat) (st sz mr kt nb sl dp pc rt : dt_F) (x : Int32) (hW : dt_W0 (made, n, st, sz, mr, kt, nb, sl, dp, pc, rt)) : dt_Ci l yX0_descendants cX0_descendants 3 (some .int) (dt_rm 1 23) [(d, .int)] [.ref h0, .int x] (dt_w0 d h0 a (made, n, st, sz, mr, kt, nb, sl, dp, pc, rt)) (dt_w0 d h0 a (made, n, st, sz, mr, kt, nb, sl, dp, pc, rt)) (dt_descendants (made, n, st, sz, mr, kt, nb, sl, dp, pc, rt) x) D z := by
  refine dt_Ci.ofW (own := RX0) (by decide) rfl (Nat.le_of_ble_eq_true rfl) ?_
  intro p e s m below meth c A ls E hu hl
  have hx := E.1
  have hb := E.2.1
  have hl : lv_has ls 3 [(0, .ref h0), (1, .int x)] := hl
  refine lv_aload_n hx hb dX0_descendants_0 rfl (lv_at hl 0 rfl) ?_
  refine lv_iload_n hx hb dX0_descendants_1 rfl (lv_at hl 1 rfl) ?_
  refine dt_k0_isHeld E hu  ⟨by decide, by decide⟩ hl.1 (Nat.le_of_ble_eq_true rfl) ⟨Nat.zero_le _, Nat.zero_le _⟩ dX0_descendants_2 (fun H locs hu => ?_)
  refine lv_if_ne (tgt := 10) hx hb dX0_descendants_5 (by decide) (fun c1 => ?_) (fun c1 => ?_)
  · have hh := dt_b_t.mp c1
    obtain ⟨sv, pv, i, hs, rfl, hp, hpq, hi, hpl⟩ := dt_W0_held hW hh
    have hn16 := dt_W0_n hW
    have hE := dt_end_le (dp := dp) hi
    rw [show dt_descendants (made, n, st, sz, mr, kt, nb, sl, dp, pc, rt) (nI sv) = _ from dt_descendants_yes hh hpl]
    refine lv_aload_n hx hb dX0_descendants_10 rfl (lv_at hl 0 rfl) ?_
    refine lv_iload_n hx hb dX0_descendants_11 rfl (lv_at hl 1 rfl) ?_
    refine dt_k0_placeOf E hu hn16 ⟨by decide, by decide⟩ hl.1 (Nat.le_of_ble_eq_true rfl) ⟨Nat.zero_le _, Nat.zero_le _⟩ dX0_descendants_12 (fun H locs hu => ?_)
    refine dt_tp (show nI (dt_plc sl (nI sv) n) = nI i from (by rw [hpl])) ?_
    refine lv_istore_n (lv' := [(2, .int (nI i)), (0, .ref h0), (1, .int (nI sv))]) hx hb dX0_descendants_15 rfl hl (by decide) rfl (fun ls hl => ?_)
    refine lv_aload_n hx hb dX0_descendants_16 rfl (lv_at hl 1 rfl) ?_
    refine lv_iload_n hx hb dX0_descendants_17 rfl (lv_at hl 0 rfl) ?_
    refine dt_k0_endOfPart E hu hi hn16 ⟨by decide, by decide⟩ hl.1 (Nat.le_of_ble_eq_true rfl) ⟨Nat.zero_le _, Nat.zero_le _⟩ dX0_descendants_18 (fun H locs hu => ?_)
    refine lv_iload_n hx hb dX0_descendants_21 rfl (lv_at hl 0 rfl) ?_
    refine lv_isub hx hb dX0_descendants_22 ?_
    refine lv_iconst (v := 1) hx hb dX0_descendants_23 (by decide) ?_
    refine lv_isub hx hb dX0_descendants_24 ?_
    refine dt_tp (show nI (dt_end dp n i) - nI i - 1 = nI (dt_end dp n i - (i + 1)) from dt_sub1 hE.1) ?_
    exact dt_ri E hu dX0_descendants_25
  · refine lv_iconst (v := (-1)) hx hb dX0_descendants_8 (by decide) ?_
    rw [show dt_descendants (made, n, st, sz, mr, kt, nb, sl, dp, pc, rt) x = -1 from dt_descendants_no (by rw [dt_b_f.mp c1]; decide)]
    exact dt_ri E hu dX0_descendants_9

set_option maxHeartbeats 4000000 in
set_option maxRecDepth 100000 in
theorem m0_descends (l : Launch) (D : va_G) (d : ClassId) (h0 : Nat) (a : Nat → Nat) (z : Nat) (made : Int32) (n : Nat) (st sz mr kt nb sl dp pc rt : dt_F) (x y : Int32) (hW : dt_W0 (made, n, st, sz, mr, kt, nb, sl, dp, pc, rt)) : dt_Ci l yX0_descends cX0_descends 5 (some .int) (dt_rm 1 23) [(d, .int)] [.ref h0, .int x, .int y] (dt_w0 d h0 a (made, n, st, sz, mr, kt, nb, sl, dp, pc, rt)) (dt_w0 d h0 a (made, n, st, sz, mr, kt, nb, sl, dp, pc, rt)) (dt_descends (made, n, st, sz, mr, kt, nb, sl, dp, pc, rt) x y) D z := by
  refine dt_Ci.ofW (own := RX0) (by decide) rfl (Nat.le_of_ble_eq_true rfl) ?_
  intro p e s m below meth c A ls E hu hl
  have hx := E.1
  have hb := E.2.1
  have hl : lv_has ls 5 [(0, .ref h0), (1, .int x), (2, .int y)] := hl
  refine lv_aload_n hx hb dX0_descends_0 rfl (lv_at hl 0 rfl) ?_
  refine lv_iload_n hx hb dX0_descends_1 rfl (lv_at hl 1 rfl) ?_
  refine dt_k0_isHeld E hu  ⟨by decide, by decide⟩ hl.1 (Nat.le_of_ble_eq_true rfl) ⟨Nat.zero_le _, Nat.zero_le _⟩ dX0_descends_2 (fun H locs hu => ?_)
  refine lv_if_eq (tgt := 16) hx hb dX0_descends_5 (by decide) (fun c1 => ?_) (fun c1 => ?_)
  · refine lv_iconst (v := (-1)) hx hb dX0_descends_16 (by decide) ?_
    rw [show dt_descends (made, n, st, sz, mr, kt, nb, sl, dp, pc, rt) x y = -1 from dt_descends_no (fun q => by rw [dt_b_f.mp c1] at q; cases q.1)]
    exact dt_ri E hu dX0_descends_17
  · have hh := dt_b_t.mp c1
    refine lv_aload_n hx hb dX0_descends_8 rfl (lv_at hl 0 rfl) ?_
    refine lv_iload_n hx hb dX0_descends_9 rfl (lv_at hl 2 rfl) ?_
    refine dt_k0_isHeld E hu  ⟨by decide, by decide⟩ hl.1 (Nat.le_of_ble_eq_true rfl) ⟨Nat.zero_le _, Nat.zero_le _⟩ dX0_descends_10 (fun H locs hu => ?_)
    refine lv_if_ne (tgt := 18) hx hb dX0_descends_13 (by decide) (fun c2 => ?_) (fun c2 => ?_)
    · have hf := dt_b_t.mp c2
      obtain ⟨sv, pv, i, hs, rfl, hp, hpq, hi, hpl⟩ := dt_W0_held hW hh
      obtain ⟨tv, p2, j, hs2, rfl, hp2, hpq2, hi2, hpl2⟩ := dt_W0_held hW hf
      have hn16 := dt_W0_n hW
      have hE := dt_end_le (dp := dp) hi
      refine lv_aload_n hx hb dX0_descends_18 rfl (lv_at hl 0 rfl) ?_
      refine lv_iload_n hx hb dX0_descends_19 rfl (lv_at hl 1 rfl) ?_
      refine dt_k0_placeOf E hu hn16 ⟨by decide, by decide⟩ hl.1 (Nat.le_of_ble_eq_true rfl) ⟨Nat.zero_le _, Nat.zero_le _⟩ dX0_descends_20 (fun H locs hu => ?_)
      refine dt_tp (show nI (dt_plc sl (nI sv) n) = nI i from (by rw [hpl])) ?_
      refine lv_istore_n (lv' := [(3, .int (nI i)), (0, .ref h0), (1, .int (nI sv)), (2, .int (nI tv))]) hx hb dX0_descends_23 rfl hl (by decide) rfl (fun ls hl => ?_)
      refine lv_aload_n hx hb dX0_descends_24 rfl (lv_at hl 1 rfl) ?_
      refine lv_iload_n hx hb dX0_descends_25 rfl (lv_at hl 3 rfl) ?_
      refine dt_k0_placeOf E hu hn16 ⟨by decide, by decide⟩ hl.1 (Nat.le_of_ble_eq_true rfl) ⟨Nat.zero_le _, Nat.zero_le _⟩ dX0_descends_26 (fun H locs hu => ?_)
      refine dt_tp (show nI (dt_plc sl (nI tv) n) = nI j from (by rw [hpl2])) ?_
      refine lv_istore (lv' := [(4, .int (nI j)), (3, .int (nI i)), (0, .ref h0), (1, .int (nI sv)), (2, .int (nI tv))]) hx hb dX0_descends_29 hl (by decide) rfl (fun ls hl => ?_)
      refine lv_iload hx hb dX0_descends_31 (lv_at hl 0 rfl) ?_
      refine lv_iload_n hx hb dX0_descends_33 rfl (lv_at hl 1 rfl) ?_
      refine lv_icmp_le (tgt := 51) hx hb dX0_descends_34 (by decide) (fun c3 => ?_) (fun c3 => ?_)
      · refine lv_iconst (v := 0) hx hb dX0_descends_51 (by decide) ?_
        rw [show dt_descends (made, n, st, sz, mr, kt, nb, sl, dp, pc, rt) (nI sv) (nI tv) = 0 from (dt_descends_yes hh hf hpl hpl2).trans (if_neg (fun q => nI_ge q.1 (by omega) c3))]
        exact dt_ri E hu dX0_descends_52
      · have c3 : i < j := Nat.lt_of_not_le (fun q => c3 (nI_le q (by omega)))
        refine lv_iload hx hb dX0_descends_37 (lv_at hl 0 rfl) ?_
        refine lv_aload_n hx hb dX0_descends_39 rfl (lv_at hl 2 rfl) ?_
        refine lv_iload_n hx hb dX0_descends_40 rfl (lv_at hl 1 rfl) ?_
        refine dt_k0_endOfPart E hu hi hn16 ⟨by decide, by decide⟩ hl.1 (Nat.le_of_ble_eq_true rfl) ⟨Nat.zero_le _, Nat.zero_le _⟩ dX0_descends_41 (fun H locs hu => ?_)
        refine lv_icmp_ge (tgt := 51) hx hb dX0_descends_44 (by decide) (fun c4 => ?_) (fun c4 => ?_)
        · refine lv_iconst (v := 0) hx hb dX0_descends_51 (by decide) ?_
          rw [show dt_descends (made, n, st, sz, mr, kt, nb, sl, dp, pc, rt) (nI sv) (nI tv) = 0 from (dt_descends_yes hh hf hpl hpl2).trans (if_neg (fun q => nI_ge q.2 (by omega) c4))]
          exact dt_ri E hu dX0_descends_52
        · refine lv_iconst (v := 1) hx hb dX0_descends_47 (by decide) ?_
          refine lv_goto (tgt := 52) hx hb dX0_descends_48 (by decide) ?_
          rw [show dt_descends (made, n, st, sz, mr, kt, nb, sl, dp, pc, rt) (nI sv) (nI tv) = 1 from (dt_descends_yes hh hf hpl hpl2).trans (if_pos ⟨c3, Nat.lt_of_not_le (fun q => c4 (nI_le q (by omega)))⟩)]
          exact dt_ri E hu dX0_descends_52
    · refine lv_iconst (v := (-1)) hx hb dX0_descends_16 (by decide) ?_
      rw [show dt_descends (made, n, st, sz, mr, kt, nb, sl, dp, pc, rt) x y = -1 from dt_descends_no (fun q => by rw [dt_b_f.mp c2] at q; cases q.2)]
      exact dt_ri E hu dX0_descends_17

set_option maxHeartbeats 4000000 in
set_option maxRecDepth 100000 in
theorem m0_copy (l : Launch) (D : va_G) (d : ClassId) (h0 : Nat) (a : Nat → Nat) (z : Nat) (made : Int32) (n : Nat) (st sz mr kt nb sl dp pc rt : dt_F) (x y v : Int32) (hW : dt_W0 (made, n, st, sz, mr, kt, nb, sl, dp, pc, rt)) : dt_Ci l yX0_copy cX0_copy 4 (some .int) (dt_rm 2 49) [(d, .int)] [.ref h0, .int x, .int y, .int v] (dt_w0 d h0 a (made, n, st, sz, mr, kt, nb, sl, dp, pc, rt)) (dt_w0 d h0 a (dt_copy (made, n, st, sz, mr, kt, nb, sl, dp, pc, rt) x y v).2) ((dt_copy (made, n, st, sz, mr, kt, nb, sl, dp, pc, rt) x y v).1) D z := by
  refine dt_Ci.ofW (own := RX0) (by decide) rfl (Nat.le_of_ble_eq_true rfl) ?_
  intro p e s m below meth c A ls E hu hl
  have hx := E.1
  have hb := E.2.1
  have hl : lv_has ls 4 [(0, .ref h0), (1, .int x), (2, .int y), (3, .int v)] := hl
  refine lv_aload_n hx hb dX0_copy_0 rfl (lv_at hl 0 rfl) ?_
  refine lv_iload_n hx hb dX0_copy_1 rfl (lv_at hl 1 rfl) ?_
  refine dt_k0_isHeld E hu  ⟨by decide, by decide⟩ hl.1 (Nat.le_of_ble_eq_true rfl) ⟨Nat.zero_le _, Nat.zero_le _⟩ dX0_copy_2 (fun H locs hu => ?_)
  refine lv_if_eq (tgt := 16) hx hb dX0_copy_5 (by decide) (fun c1 => ?_) (fun c1 => ?_)
  · refine lv_iconst (v := (-1)) hx hb dX0_copy_16 (by decide) ?_
    rw [show dt_copy (made, n, st, sz, mr, kt, nb, sl, dp, pc, rt) x y v = (-1, (made, n, st, sz, mr, kt, nb, sl, dp, pc, rt)) from dt_copy_no (fun q => by rw [dt_b_f.mp c1] at q; cases q.1)]
    exact dt_ri E hu dX0_copy_17
  · have hh := dt_b_t.mp c1
    refine lv_aload_n hx hb dX0_copy_8 rfl (lv_at hl 0 rfl) ?_
    refine lv_iload_n hx hb dX0_copy_9 rfl (lv_at hl 2 rfl) ?_
    refine dt_k0_isFree E hu  ⟨by decide, by decide⟩ hl.1 (Nat.le_of_ble_eq_true rfl) ⟨Nat.zero_le _, Nat.zero_le _⟩ dX0_copy_10 (fun H locs hu => ?_)
    refine lv_if_ne (tgt := 18) hx hb dX0_copy_13 (by decide) (fun c2 => ?_) (fun c2 => ?_)
    · have hf := dt_b_t.mp c2
      obtain ⟨sv, pv, i, hs, rfl, hp, hpq, hi, hpl⟩ := dt_W0_held hW hh
      obtain ⟨tv, ht, rfl, hn⟩ := dt_W0_free hW hf
      rw [show dt_copy (made, n, st, sz, mr, kt, nb, sl, dp, pc, rt) (nI sv) (nI tv) v = _ from dt_copy_yes hh hf hs ht hp hpq hpl]
      refine lv_aload_n hx hb dX0_copy_18 rfl (lv_at hl 0 rfl) ?_
      refine lv_iload_n hx hb dX0_copy_19 rfl (lv_at hl 1 rfl) ?_
      refine lv_iload_n hx hb dX0_copy_20 rfl (lv_at hl 2 rfl) ?_
      refine lv_aload_n hx hb dX0_copy_21 rfl (lv_at hl 0 rfl) ?_
      refine dt_g0_pc E hu dX0_copy_22 ?_
      refine lv_iload_n hx hb dX0_copy_25 rfl (lv_at hl 1 rfl) ?_
      refine dt_l0_pc E hu (j := sv) (by omega) dX0_copy_26 ?_
      refine dt_tp (show pc sv = nI pv from hpq) ?_
      refine lv_aload_n hx hb dX0_copy_27 rfl (lv_at hl 0 rfl) ?_
      refine dt_g0_rt E hu dX0_copy_28 ?_
      refine lv_iload_n hx hb dX0_copy_31 rfl (lv_at hl 1 rfl) ?_
      refine dt_l0_rt E hu (j := sv) (by omega) dX0_copy_32 ?_
      refine lv_iload_n hx hb dX0_copy_33 rfl (lv_at hl 3 rfl) ?_
      refine lv_iand hx hb dX0_copy_34 ?_
      refine dt_k0_putKey E hu hpl hi hn ht hp ⟨by decide, by decide⟩ hl.1 (Nat.le_of_ble_eq_true rfl) ⟨Nat.zero_le _, Nat.zero_le _⟩ dX0_copy_35 (fun H locs hu => ?_)
      refine lv_aload_n hx hb dX0_copy_38 rfl (lv_at hl 0 rfl) ?_
      refine dt_g0_rt E hu dX0_copy_39 ?_
      refine lv_iload_n hx hb dX0_copy_42 rfl (lv_at hl 2 rfl) ?_
      refine dt_l0_rt E hu (j := tv) (by omega) dX0_copy_43 ?_
      exact dt_ri E hu dX0_copy_44
    · refine lv_iconst (v := (-1)) hx hb dX0_copy_16 (by decide) ?_
      rw [show dt_copy (made, n, st, sz, mr, kt, nb, sl, dp, pc, rt) x y v = (-1, (made, n, st, sz, mr, kt, nb, sl, dp, pc, rt)) from dt_copy_no (fun q => by rw [dt_b_f.mp c2] at q; cases q.2)]
      exact dt_ri E hu dX0_copy_17

set_option maxHeartbeats 4000000 in
set_option maxRecDepth 100000 in
theorem m0_split (l : Launch) (D : va_G) (d : ClassId) (h0 : Nat) (a : Nat → Nat) (z : Nat) (made : Int32) (n : Nat) (st sz mr kt nb sl dp pc rt : dt_F) (x y v : Int32) (hW : dt_W0 (made, n, st, sz, mr, kt, nb, sl, dp, pc, rt)) : dt_Ci l yX0_split cX0_split 6 (some .int) (dt_rm 2 49) [(d, .int)] [.ref h0, .int x, .int y, .int v] (dt_w0 d h0 a (made, n, st, sz, mr, kt, nb, sl, dp, pc, rt)) (dt_w0 d h0 a (dt_split (made, n, st, sz, mr, kt, nb, sl, dp, pc, rt) x y v).2) ((dt_split (made, n, st, sz, mr, kt, nb, sl, dp, pc, rt) x y v).1) D z := by
  refine dt_Ci.ofW (own := RX0) (by decide) rfl (Nat.le_of_ble_eq_true rfl) ?_
  intro p e s m below meth c A ls E hu hl
  have hx := E.1
  have hb := E.2.1
  have hl : lv_has ls 6 [(0, .ref h0), (1, .int x), (2, .int y), (3, .int v)] := hl
  refine lv_aload_n hx hb dX0_split_0 rfl (lv_at hl 0 rfl) ?_
  refine lv_iload_n hx hb dX0_split_1 rfl (lv_at hl 1 rfl) ?_
  refine dt_k0_isHeld E hu  ⟨by decide, by decide⟩ hl.1 (Nat.le_of_ble_eq_true rfl) ⟨Nat.zero_le _, Nat.zero_le _⟩ dX0_split_2 (fun H locs hu => ?_)
  refine lv_if_eq (tgt := 21) hx hb dX0_split_5 (by decide) (fun c1 => ?_) (fun c1 => ?_)
  · refine lv_iconst (v := (-1)) hx hb dX0_split_21 (by decide) ?_
    rw [show dt_split (made, n, st, sz, mr, kt, nb, sl, dp, pc, rt) x y v = (-1, (made, n, st, sz, mr, kt, nb, sl, dp, pc, rt)) from dt_split_no (fun q => by rw [dt_b_f.mp c1] at q; cases q.1)]
    exact dt_ri E hu dX0_split_22
  · have hh := dt_b_t.mp c1
    refine lv_aload_n hx hb dX0_split_8 rfl (lv_at hl 0 rfl) ?_
    refine lv_iload_n hx hb dX0_split_9 rfl (lv_at hl 2 rfl) ?_
    refine dt_k0_isFree E hu  ⟨by decide, by decide⟩ hl.1 (Nat.le_of_ble_eq_true rfl) ⟨Nat.zero_le _, Nat.zero_le _⟩ dX0_split_10 (fun H locs hu => ?_)
    refine lv_if_eq (tgt := 21) hx hb dX0_split_13 (by decide) (fun c2 => ?_) (fun c2 => ?_)
    · refine lv_iconst (v := (-1)) hx hb dX0_split_21 (by decide) ?_
      rw [show dt_split (made, n, st, sz, mr, kt, nb, sl, dp, pc, rt) x y v = (-1, (made, n, st, sz, mr, kt, nb, sl, dp, pc, rt)) from dt_split_no (fun q => by rw [dt_b_f.mp c2] at q; cases q.2.1)]
      exact dt_ri E hu dX0_split_22
    · have hf := dt_b_t.mp c2
      refine lv_iload_n hx hb dX0_split_16 rfl (lv_at hl 3 rfl) ?_
      refine lv_iconst (v := 1) hx hb dX0_split_17 (by decide) ?_
      refine lv_icmp_ge (tgt := 23) hx hb dX0_split_18 (by decide) (fun c3 => ?_) (fun c3 => ?_)
      · obtain ⟨sv, pv, i, hs, rfl, hp, hpq, hi, hpl⟩ := dt_W0_held hW hh
        obtain ⟨tv, ht, rfl, hn⟩ := dt_W0_free hW hf
        refine lv_aload_n hx hb dX0_split_23 rfl (lv_at hl 0 rfl) ?_
        refine dt_g0_pc E hu dX0_split_24 ?_
        refine lv_iload_n hx hb dX0_split_27 rfl (lv_at hl 1 rfl) ?_
        refine dt_l0_pc E hu (j := sv) (by omega) dX0_split_28 ?_
        refine dt_tp (show pc sv = nI pv from hpq) ?_
        refine lv_istore (lv' := [(4, .int (nI pv)), (0, .ref h0), (1, .int (nI sv)), (2, .int (nI tv)), (3, .int v)]) hx hb dX0_split_29 hl (by decide) rfl (fun ls hl => ?_)
        refine lv_iload_n hx hb dX0_split_31 rfl (lv_at hl 4 rfl) ?_
        refine lv_aload_n hx hb dX0_split_32 rfl (lv_at hl 1 rfl) ?_
        refine dt_g0_sz E hu dX0_split_33 ?_
        refine lv_iload hx hb dX0_split_36 (lv_at hl 0 rfl) ?_
        refine dt_l0_sz E hu (j := pv) (by omega) dX0_split_38 ?_
        refine lv_aload_n hx hb dX0_split_39 rfl (lv_at hl 1 rfl) ?_
        refine dt_g0_mr E hu dX0_split_40 ?_
        refine lv_iload hx hb dX0_split_43 (lv_at hl 0 rfl) ?_
        refine dt_l0_mr E hu (j := pv) (by omega) dX0_split_45 ?_
        refine lv_isub hx hb dX0_split_46 ?_
        refine lv_icmp_le (tgt := 52) hx hb dX0_split_47 (by decide) (fun c4 => ?_) (fun c4 => ?_)
        · rw [show dt_split (made, n, st, sz, mr, kt, nb, sl, dp, pc, rt) (nI sv) (nI tv) v = _ from dt_split_yes hh hf c3 c4 hs ht hp hpq hpl]
          refine lv_aload_n hx hb dX0_split_52 rfl (lv_at hl 1 rfl) ?_
          refine dt_k0_freePiece E hu  ⟨by decide, by decide⟩ hl.1 (Nat.le_of_ble_eq_true rfl) ⟨Nat.zero_le _, Nat.zero_le _⟩ dX0_split_53 (fun H locs hu => ?_)
          have hq := dt_fpc_lt kt
          generalize dt_fpc kt 16 0 = qv at hq ⊢
          refine lv_istore (lv' := [(5, .int (nI qv)), (4, .int (nI pv)), (0, .ref h0), (1, .int (nI sv)), (2, .int (nI tv)), (3, .int v)]) hx hb dX0_split_56 hl (by decide) rfl (fun ls hl => ?_)
          refine lv_aload_n hx hb dX0_split_58 rfl (lv_at hl 2 rfl) ?_
          refine dt_g0_st E hu dX0_split_59 ?_
          refine lv_iload hx hb dX0_split_62 (lv_at hl 0 rfl) ?_
          refine lv_aload_n hx hb dX0_split_64 rfl (lv_at hl 2 rfl) ?_
          refine dt_g0_st E hu dX0_split_65 ?_
          refine lv_iload hx hb dX0_split_68 (lv_at hl 1 rfl) ?_
          refine dt_l0_st E hu (j := pv) (by omega) dX0_split_70 ?_
          refine lv_aload_n hx hb dX0_split_71 rfl (lv_at hl 2 rfl) ?_
          refine dt_g0_mr E hu dX0_split_72 ?_
          refine lv_iload hx hb dX0_split_75 (lv_at hl 1 rfl) ?_
          refine dt_l0_mr E hu (j := pv) (by omega) dX0_split_77 ?_
          refine lv_iadd hx hb dX0_split_78 ?_
          refine dt_s0_st E hu (j := qv) (x := (st pv) + (mr pv)) (by omega) dX0_split_79 (fun H locs hu => ?_)
          refine lv_aload_n hx hb dX0_split_80 rfl (lv_at hl 2 rfl) ?_
          refine dt_g0_sz E hu dX0_split_81 ?_
          refine lv_iload hx hb dX0_split_84 (lv_at hl 0 rfl) ?_
          refine lv_iload_n hx hb dX0_split_86 rfl (lv_at hl 5 rfl) ?_
          refine dt_s0_sz E hu (j := qv) (x := v) (by omega) dX0_split_87 (fun H locs hu => ?_)
          refine lv_aload_n hx hb dX0_split_88 rfl (lv_at hl 2 rfl) ?_
          refine dt_g0_mr E hu dX0_split_89 ?_
          refine lv_iload hx hb dX0_split_92 (lv_at hl 0 rfl) ?_
          refine lv_iconst (v := 0) hx hb dX0_split_94 (by decide) ?_
          refine dt_s0_mr E hu (j := qv) (x := 0) (by omega) dX0_split_95 (fun H locs hu => ?_)
          refine lv_aload_n hx hb dX0_split_96 rfl (lv_at hl 2 rfl) ?_
          refine dt_g0_kt E hu dX0_split_97 ?_
          refine lv_iload hx hb dX0_split_100 (lv_at hl 0 rfl) ?_
          refine lv_iconst (v := 0) hx hb dX0_split_102 (by decide) ?_
          refine dt_s0_kt E hu (j := qv) (x := 0) (by omega) dX0_split_103 (fun H locs hu => ?_)
          refine lv_aload_n hx hb dX0_split_104 rfl (lv_at hl 2 rfl) ?_
          refine dt_g0_nb E hu dX0_split_105 ?_
          refine lv_iload hx hb dX0_split_108 (lv_at hl 0 rfl) ?_
          refine lv_aload_n hx hb dX0_split_110 rfl (lv_at hl 2 rfl) ?_
          refine dt_g0_made E hu dX0_split_111 ?_
          refine dt_s0_nb E hu (j := qv) (x := made) (by omega) dX0_split_114 (fun H locs hu => ?_)
          refine lv_aload_n hx hb dX0_split_115 rfl (lv_at hl 2 rfl) ?_
          refine lv_dup hx hb dX0_split_116 rfl ?_
          refine dt_g0_made E hu dX0_split_117 ?_
          refine lv_iconst (v := 1) hx hb dX0_split_120 (by decide) ?_
          refine lv_iadd hx hb dX0_split_121 ?_
          refine dt_p0_made E hu dX0_split_122 (fun H locs hu => ?_)
          refine lv_aload_n hx hb dX0_split_125 rfl (lv_at hl 2 rfl) ?_
          refine dt_g0_mr E hu dX0_split_126 ?_
          refine lv_iload hx hb dX0_split_129 (lv_at hl 1 rfl) ?_
          refine lv_dup2_11 hx hb dX0_split_131 rfl rfl ?_
          refine dt_l0_mr E hu (j := pv) (by omega) dX0_split_132 ?_
          refine lv_iload_n hx hb dX0_split_133 rfl (lv_at hl 5 rfl) ?_
          refine lv_iadd hx hb dX0_split_134 ?_
          refine dt_s0_mr E hu (j := pv) (x := ((upd mr qv 0) pv) + v) (by omega) dX0_split_135 (fun H locs hu => ?_)
          refine lv_aload_n hx hb dX0_split_136 rfl (lv_at hl 2 rfl) ?_
          refine lv_iload_n hx hb dX0_split_137 rfl (lv_at hl 3 rfl) ?_
          refine lv_iload_n hx hb dX0_split_138 rfl (lv_at hl 4 rfl) ?_
          refine lv_iload hx hb dX0_split_139 (lv_at hl 0 rfl) ?_
          refine lv_aload_n hx hb dX0_split_141 rfl (lv_at hl 2 rfl) ?_
          refine dt_g0_rt E hu dX0_split_142 ?_
          refine lv_iload_n hx hb dX0_split_145 rfl (lv_at hl 3 rfl) ?_
          refine dt_l0_rt E hu (j := sv) (by omega) dX0_split_146 ?_
          refine dt_k0_putKey E hu hpl hi hn ht hq ⟨by decide, by decide⟩ hl.1 (Nat.le_of_ble_eq_true rfl) ⟨Nat.zero_le _, Nat.zero_le _⟩ dX0_split_147 (fun H locs hu => ?_)
          refine lv_aload_n hx hb dX0_split_150 rfl (lv_at hl 2 rfl) ?_
          refine dt_g0_st E hu dX0_split_151 ?_
          refine lv_iload hx hb dX0_split_154 (lv_at hl 0 rfl) ?_
          refine dt_l0_st E hu (j := qv) (by omega) dX0_split_156 ?_
          exact dt_ri E hu dX0_split_157
        · refine lv_iconst (v := (-1)) hx hb dX0_split_50 (by decide) ?_
          rw [show dt_split (made, n, st, sz, mr, kt, nb, sl, dp, pc, rt) (nI sv) (nI tv) v = (-1, (made, n, st, sz, mr, kt, nb, sl, dp, pc, rt)) from dt_split_noz hs hp hpq c4]
          exact dt_ri E hu dX0_split_51
      · refine lv_iconst (v := (-1)) hx hb dX0_split_21 (by decide) ?_
        rw [show dt_split (made, n, st, sz, mr, kt, nb, sl, dp, pc, rt) x y v = (-1, (made, n, st, sz, mr, kt, nb, sl, dp, pc, rt)) from dt_split_no (fun q => c3 q.2.2)]
        exact dt_ri E hu dX0_split_22

set_option maxHeartbeats 4000000 in
set_option maxRecDepth 100000 in
theorem m0_move (l : Launch) (D : va_G) (d : ClassId) (h0 : Nat) (a : Nat → Nat) (z : Nat) (made : Int32) (n : Nat) (st sz mr kt nb sl dp pc rt : dt_F) (x y : Int32) (hW : dt_W0 (made, n, st, sz, mr, kt, nb, sl, dp, pc, rt)) : dt_Ci l yX0_move cX0_move 4 (some .int) (dt_rm 1 23) [(d, .int)] [.ref h0, .int x, .int y] (dt_w0 d h0 a (made, n, st, sz, mr, kt, nb, sl, dp, pc, rt)) (dt_w0 d h0 a (dt_move (made, n, st, sz, mr, kt, nb, sl, dp, pc, rt) x y).2) ((dt_move (made, n, st, sz, mr, kt, nb, sl, dp, pc, rt) x y).1) D z := by
  refine dt_Ci.ofW (own := RX0) (by decide) rfl (Nat.le_of_ble_eq_true rfl) ?_
  intro p e s m below meth c A ls E hu hl
  have hx := E.1
  have hb := E.2.1
  have hl : lv_has ls 4 [(0, .ref h0), (1, .int x), (2, .int y)] := hl
  refine lv_aload_n hx hb dX0_move_0 rfl (lv_at hl 0 rfl) ?_
  refine lv_iload_n hx hb dX0_move_1 rfl (lv_at hl 1 rfl) ?_
  refine dt_k0_isHeld E hu  ⟨by decide, by decide⟩ hl.1 (Nat.le_of_ble_eq_true rfl) ⟨Nat.zero_le _, Nat.zero_le _⟩ dX0_move_2 (fun H locs hu => ?_)
  refine lv_if_eq (tgt := 16) hx hb dX0_move_5 (by decide) (fun c1 => ?_) (fun c1 => ?_)
  · refine lv_iconst (v := (-1)) hx hb dX0_move_16 (by decide) ?_
    rw [show dt_move (made, n, st, sz, mr, kt, nb, sl, dp, pc, rt) x y = (-1, (made, n, st, sz, mr, kt, nb, sl, dp, pc, rt)) from dt_move_no (fun q => by rw [dt_b_f.mp c1] at q; cases q.1)]
    exact dt_ri E hu dX0_move_17
  · have hh := dt_b_t.mp c1
    refine lv_aload_n hx hb dX0_move_8 rfl (lv_at hl 0 rfl) ?_
    refine lv_iload_n hx hb dX0_move_9 rfl (lv_at hl 2 rfl) ?_
    refine dt_k0_isFree E hu  ⟨by decide, by decide⟩ hl.1 (Nat.le_of_ble_eq_true rfl) ⟨Nat.zero_le _, Nat.zero_le _⟩ dX0_move_10 (fun H locs hu => ?_)
    refine lv_if_ne (tgt := 18) hx hb dX0_move_13 (by decide) (fun c2 => ?_) (fun c2 => ?_)
    · have hf := dt_b_t.mp c2
      obtain ⟨sv, pv, i, hs, rfl, hp, hpq, hi, hpl⟩ := dt_W0_held hW hh
      obtain ⟨tv, ht, rfl, hn⟩ := dt_W0_free hW hf
      rw [show dt_move (made, n, st, sz, mr, kt, nb, sl, dp, pc, rt) (nI sv) (nI tv) = _ from dt_move_yes hh hf hs ht hpl]
      refine lv_aload_n hx hb dX0_move_18 rfl (lv_at hl 0 rfl) ?_
      refine lv_iload_n hx hb dX0_move_19 rfl (lv_at hl 1 rfl) ?_
      refine dt_k0_placeOf E hu (by omega) ⟨by decide, by decide⟩ hl.1 (Nat.le_of_ble_eq_true rfl) ⟨Nat.zero_le _, Nat.zero_le _⟩ dX0_move_20 (fun H locs hu => ?_)
      refine dt_tp (show nI (dt_plc sl (nI sv) n) = nI i from (by rw [hpl])) ?_
      refine lv_istore_n (lv' := [(3, .int (nI i)), (0, .ref h0), (1, .int (nI sv)), (2, .int (nI tv))]) hx hb dX0_move_23 rfl hl (by decide) rfl (fun ls hl => ?_)
      refine lv_aload_n hx hb dX0_move_24 rfl (lv_at hl 1 rfl) ?_
      refine dt_g0_sl E hu dX0_move_25 ?_
      refine lv_iload_n hx hb dX0_move_28 rfl (lv_at hl 0 rfl) ?_
      refine lv_iload_n hx hb dX0_move_29 rfl (lv_at hl 3 rfl) ?_
      refine dt_s0_sl E hu (j := i) (x := nI tv) (by omega) dX0_move_30 (fun H locs hu => ?_)
      refine lv_aload_n hx hb dX0_move_31 rfl (lv_at hl 1 rfl) ?_
      refine dt_g0_pc E hu dX0_move_32 ?_
      refine lv_iload_n hx hb dX0_move_35 rfl (lv_at hl 3 rfl) ?_
      refine lv_aload_n hx hb dX0_move_36 rfl (lv_at hl 1 rfl) ?_
      refine dt_g0_pc E hu dX0_move_37 ?_
      refine lv_iload_n hx hb dX0_move_40 rfl (lv_at hl 2 rfl) ?_
      refine dt_l0_pc E hu (j := sv) (by omega) dX0_move_41 ?_
      refine dt_s0_pc E hu (j := tv) (x := pc sv) (by omega) dX0_move_42 (fun H locs hu => ?_)
      refine lv_aload_n hx hb dX0_move_43 rfl (lv_at hl 1 rfl) ?_
      refine dt_g0_rt E hu dX0_move_44 ?_
      refine lv_iload_n hx hb dX0_move_47 rfl (lv_at hl 3 rfl) ?_
      refine lv_aload_n hx hb dX0_move_48 rfl (lv_at hl 1 rfl) ?_
      refine dt_g0_rt E hu dX0_move_49 ?_
      refine lv_iload_n hx hb dX0_move_52 rfl (lv_at hl 2 rfl) ?_
      refine dt_l0_rt E hu (j := sv) (by omega) dX0_move_53 ?_
      refine dt_s0_rt E hu (j := tv) (x := rt sv) (by omega) dX0_move_54 (fun H locs hu => ?_)
      refine lv_aload_n hx hb dX0_move_55 rfl (lv_at hl 1 rfl) ?_
      refine dt_g0_pc E hu dX0_move_56 ?_
      refine lv_iload_n hx hb dX0_move_59 rfl (lv_at hl 2 rfl) ?_
      refine lv_iconst (v := (-1)) hx hb dX0_move_60 (by decide) ?_
      refine dt_s0_pc E hu (j := sv) (x := -1) (by omega) dX0_move_61 (fun H locs hu => ?_)
      refine lv_iconst (v := 0) hx hb dX0_move_62 (by decide) ?_
      exact dt_ri E hu dX0_move_63
    · refine lv_iconst (v := (-1)) hx hb dX0_move_16 (by decide) ?_
      rw [show dt_move (made, n, st, sz, mr, kt, nb, sl, dp, pc, rt) x y = (-1, (made, n, st, sz, mr, kt, nb, sl, dp, pc, rt)) from dt_move_no (fun q => by rw [dt_b_f.mp c2] at q; cases q.2)]
      exact dt_ri E hu dX0_move_17

set_option maxHeartbeats 4000000 in
set_option maxRecDepth 100000 in
theorem m0_delete (l : Launch) (D : va_G) (d : ClassId) (h0 : Nat) (a : Nat → Nat) (z : Nat) (made : Int32) (n : Nat) (st sz mr kt nb sl dp pc rt : dt_F) (x : Int32) (hW : dt_W0 (made, n, st, sz, mr, kt, nb, sl, dp, pc, rt)) : dt_Ci l yX0_delete cX0_delete 7 (some .int) (dt_rm 2 44) [(d, .int)] [.ref h0, .int x] (dt_w0 d h0 a (made, n, st, sz, mr, kt, nb, sl, dp, pc, rt)) (dt_w0 d h0 a (dt_delete (made, n, st, sz, mr, kt, nb, sl, dp, pc, rt) x).2) ((dt_delete (made, n, st, sz, mr, kt, nb, sl, dp, pc, rt) x).1) D z := by
  refine dt_Ci.ofW (own := RX0) (by decide) rfl (Nat.le_of_ble_eq_true rfl) ?_
  intro p e s m below meth c A ls E hu hl
  have hx := E.1
  have hb := E.2.1
  have hl : lv_has ls 7 [(0, .ref h0), (1, .int x)] := hl
  refine lv_aload_n hx hb dX0_delete_0 rfl (lv_at hl 0 rfl) ?_
  refine lv_iload_n hx hb dX0_delete_1 rfl (lv_at hl 1 rfl) ?_
  refine dt_k0_isHeld E hu  ⟨by decide, by decide⟩ hl.1 (Nat.le_of_ble_eq_true rfl) ⟨Nat.zero_le _, Nat.zero_le _⟩ dX0_delete_2 (fun H locs hu => ?_)
  refine lv_if_ne (tgt := 10) hx hb dX0_delete_5 (by decide) (fun c1 => ?_) (fun c1 => ?_)
  · have hh := dt_b_t.mp c1
    obtain ⟨sv, pv, i, hs, rfl, hp, hpq, hi, hpl⟩ := dt_W0_held hW hh
    have hn16 := dt_W0_n hW
    have hE := dt_end_le (dp := dp) hi
    rw [show dt_delete (made, n, st, sz, mr, kt, nb, sl, dp, pc, rt) (nI sv) = _ from dt_delete_yes hh hs hp hpq hpl]
    refine lv_aload_n hx hb dX0_delete_10 rfl (lv_at hl 0 rfl) ?_
    refine lv_iload_n hx hb dX0_delete_11 rfl (lv_at hl 1 rfl) ?_
    refine dt_k0_placeOf E hu hn16 ⟨by decide, by decide⟩ hl.1 (Nat.le_of_ble_eq_true rfl) ⟨Nat.zero_le _, Nat.zero_le _⟩ dX0_delete_12 (fun H locs hu => ?_)
    refine dt_tp (show nI (dt_plc sl (nI sv) n) = nI i from (by rw [hpl])) ?_
    refine lv_istore_n (lv' := [(2, .int (nI i)), (0, .ref h0), (1, .int (nI sv))]) hx hb dX0_delete_15 rfl hl (by decide) rfl (fun ls hl => ?_)
    refine lv_aload_n hx hb dX0_delete_16 rfl (lv_at hl 1 rfl) ?_
    refine lv_iload_n hx hb dX0_delete_17 rfl (lv_at hl 0 rfl) ?_
    refine dt_k0_endOfPart E hu hi hn16 ⟨by decide, by decide⟩ hl.1 (Nat.le_of_ble_eq_true rfl) ⟨Nat.zero_le _, Nat.zero_le _⟩ dX0_delete_18 (fun H locs hu => ?_)
    refine lv_istore_n (lv' := [(3, .int (nI (dt_end dp n i))), (2, .int (nI i)), (0, .ref h0), (1, .int (nI sv))]) hx hb dX0_delete_21 rfl hl (by decide) rfl (fun ls hl => ?_)
    refine lv_aload_n hx hb dX0_delete_22 rfl (lv_at hl 2 rfl) ?_
    refine dt_g0_dp E hu dX0_delete_23 ?_
    refine lv_iload_n hx hb dX0_delete_26 rfl (lv_at hl 1 rfl) ?_
    refine dt_l0_dp E hu (j := i) (by omega) dX0_delete_27 ?_
    refine lv_istore (lv' := [(4, .int (dp i)), (3, .int (nI (dt_end dp n i))), (2, .int (nI i)), (0, .ref h0), (1, .int (nI sv))]) hx hb dX0_delete_28 hl (by decide) rfl (fun ls hl => ?_)
    refine lv_iconst (v := 0) hx hb dX0_delete_30 (by decide) ?_
    refine lv_istore (lv' := [(5, .int 0), (4, .int (dp i)), (3, .int (nI (dt_end dp n i))), (2, .int (nI i)), (0, .ref h0), (1, .int (nI sv))]) hx hb dX0_delete_31 hl (by decide) rfl (fun ls hl => ?_)
    refine lv_iload_n hx hb dX0_delete_33 rfl (lv_at hl 3 rfl) ?_
    refine lv_iconst (v := 1) hx hb dX0_delete_34 (by decide) ?_
    refine lv_iadd hx hb dX0_delete_35 ?_
    refine dt_tp (show nI i + 1 = nI (i + 1) from nI_1 _) ?_
    refine lv_istore (lv' := [(6, .int (nI (i + 1))), (5, .int 0), (4, .int (dp i)), (3, .int (nI (dt_end dp n i))), (2, .int (nI i)), (0, .ref h0), (1, .int (nI sv))]) hx hb dX0_delete_36 hl (by decide) rfl (fun ls hl => ?_)
    have lp : ∀ (dd k : Nat) (cv : Int32) (g : dt_F) (H : Heap) (locs : List Loc), k + dd = dt_end dp n i → dt_lf (dp i) dd k cv g = dt_lf (dp i) (dt_end dp n i - (i + 1)) (i + 1) 0 dp → dt_hq D A s (dt_w0 d h0 a (made, n, st, sz, mr, kt, nb, sl, g, pc, rt)) H locs → ∀ (ls : Array Slot), lv_has ls 7 [(0, .ref h0), (1, .int (nI sv)), (2, .int (nI i)), (3, .int (nI (dt_end dp n i))), (4, .int (dp i)), (5, .int cv), (6, .int (nI k))] → W p l e (dt_rm 2 44) s m ([.ref h0, .int (nI sv)] : List Value).toArray below meth c H locs 0 0 (MQ below (dt_QI [(d, .int)] (dt_w0 d h0 a (made, n - 1, st, sz, dt_rs st sz (upd kt pv (kt pv - 1)) nb 16 0 mr, upd kt pv (kt pv - 1), nb, dt_shd 1 (n - (i + 1)) (i + 1) sl, dt_shd 1 (n - (i + 1)) (i + 1) (dt_lf (dp i) (dt_end dp n i - (i + 1)) (i + 1) 0 dp).2, upd pc sv (-1), rt)) ((dt_lf (dp i) (dt_end dp n i - (i + 1)) (i + 1) 0 dp).1) D A) ([.ref h0, .int (nI sv)] : List Value).toArray s 0 0 A) (F0 m 38 ls []) := by
      intro dd
      induction dd with
      | zero =>
        intro k cv g H locs hk hf hu ls hl
        refine lv_iload hx hb dX0_delete_38 (lv_at hl 6 rfl) ?_
        refine lv_iload_n hx hb dX0_delete_40 rfl (lv_at hl 3 rfl) ?_
        refine lv_icmp_ge (tgt := 85) hx hb dX0_delete_41 (by decide) (fun c2 => ?_) (fun c2 => absurd (nI_le (by omega) (by omega)) c2)
        rw [← hf]
        refine lv_aload_n hx hb dX0_delete_85 rfl (lv_at hl 0 rfl) ?_
        refine lv_iload_n hx hb dX0_delete_86 rfl (lv_at hl 1 rfl) ?_
        refine dt_k0_forgetKey E hu hs hp hpq ⟨by decide, by decide⟩ hl.1 (Nat.le_of_ble_eq_true rfl) ⟨Nat.zero_le _, Nat.zero_le _⟩ dX0_delete_87 (fun H locs hu => ?_)
        refine lv_aload_n hx hb dX0_delete_90 rfl (lv_at hl 0 rfl) ?_
        refine lv_iload_n hx hb dX0_delete_91 rfl (lv_at hl 2 rfl) ?_
        refine lv_iload_n hx hb dX0_delete_92 rfl (lv_at hl 2 rfl) ?_
        refine lv_iconst (v := 1) hx hb dX0_delete_93 (by decide) ?_
        refine lv_iadd hx hb dX0_delete_94 ?_
        refine dt_tp (show nI i + 1 = nI (i + 1) from nI_1 _) ?_
        refine dt_k0_cutRow E hu (by omega) hn16 ⟨by decide, by decide⟩ hl.1 (Nat.le_of_ble_eq_true rfl) ⟨Nat.zero_le _, Nat.zero_le _⟩ dX0_delete_95 (fun H locs hu => ?_)
        refine lv_aload_n hx hb dX0_delete_98 rfl (lv_at hl 0 rfl) ?_
        refine dt_k0_resetMarks E hu  ⟨by decide, by decide⟩ hl.1 (Nat.le_of_ble_eq_true rfl) ⟨Nat.zero_le _, Nat.zero_le _⟩ dX0_delete_99 (fun H locs hu => ?_)
        refine lv_iload hx hb dX0_delete_102 (lv_at hl 5 rfl) ?_
        exact dt_ri E hu dX0_delete_104
      | succ dd ih =>
        intro k cv g H locs hk hf hu ls hl
        refine lv_iload hx hb dX0_delete_38 (lv_at hl 6 rfl) ?_
        refine lv_iload_n hx hb dX0_delete_40 rfl (lv_at hl 3 rfl) ?_
        refine lv_icmp_ge (tgt := 85) hx hb dX0_delete_41 (by decide) (fun c2 => absurd c2 (nI_ge (by omega) (by omega))) (fun c2 => ?_)
        refine lv_iload hx hb dX0_delete_44 (lv_at hl 5 rfl) ?_
        refine lv_aload_n hx hb dX0_delete_46 rfl (lv_at hl 0 rfl) ?_
        refine dt_g0_dp E hu dX0_delete_47 ?_
        refine lv_iload hx hb dX0_delete_50 (lv_at hl 6 rfl) ?_
        refine dt_l0_dp E hu (j := k) (by omega) dX0_delete_52 ?_
        refine lv_iload hx hb dX0_delete_53 (lv_at hl 4 rfl) ?_
        refine lv_iconst (v := 1) hx hb dX0_delete_55 (by decide) ?_
        refine lv_iadd hx hb dX0_delete_56 ?_
        refine lv_icmp_ne (tgt := 64) hx hb dX0_delete_57 (by decide) (fun c3 => ?_) (fun c3 => ?_)
        · refine lv_iconst (v := 0) hx hb dX0_delete_64 (by decide) ?_
          refine lv_iadd hx hb dX0_delete_65 ?_
          refine dt_tp (show cv + 0 = cv + (if g k = dp i + 1 then 1 else 0) from (by rw [if_neg c3])) ?_
          refine lv_istore (lv' := [(5, .int (cv + (if g k = dp i + 1 then 1 else 0))), (0, .ref h0), (1, .int (nI sv)), (2, .int (nI i)), (3, .int (nI (dt_end dp n i))), (4, .int (dp i)), (6, .int (nI k))]) hx hb dX0_delete_66 hl (by decide) rfl (fun ls hl => ?_)
          refine lv_aload_n hx hb dX0_delete_68 rfl (lv_at hl 1 rfl) ?_
          refine dt_g0_dp E hu dX0_delete_69 ?_
          refine lv_iload hx hb dX0_delete_72 (lv_at hl 6 rfl) ?_
          refine lv_dup2_11 hx hb dX0_delete_74 rfl rfl ?_
          refine dt_l0_dp E hu (j := k) (by omega) dX0_delete_75 ?_
          refine lv_iconst (v := 1) hx hb dX0_delete_76 (by decide) ?_
          refine lv_isub hx hb dX0_delete_77 ?_
          refine dt_s0_dp E hu (j := k) (x := (g k) - 1) (by omega) dX0_delete_78 (fun H locs hu => ?_)
          refine lv_iinc (v := nI (k + 1)) (lv' := [(6, .int (nI (k + 1))), (5, .int (cv + (if g k = dp i + 1 then 1 else 0))), (0, .ref h0), (1, .int (nI sv)), (2, .int (nI i)), (3, .int (nI (dt_end dp n i))), (4, .int (dp i))]) hx hb dX0_delete_79 hl (k := 6) rfl (dt_inc _) (by decide) rfl (fun ls hl => ?_)
          refine lv_goto (tgt := 38) hx hb dX0_delete_82 (by decide) ?_
          exact ih (k + 1) _ _ H locs (by omega) hf hu ls (lv_sub hl [2, 3, 4, 5, 6, 1, 0] rfl)
        · refine lv_iconst (v := 1) hx hb dX0_delete_60 (by decide) ?_
          refine lv_goto (tgt := 65) hx hb dX0_delete_61 (by decide) ?_
          refine lv_iadd hx hb dX0_delete_65 ?_
          refine dt_tp (show cv + 1 = cv + (if g k = dp i + 1 then 1 else 0) from (by rw [if_pos c3])) ?_
          refine lv_istore (lv' := [(5, .int (cv + (if g k = dp i + 1 then 1 else 0))), (0, .ref h0), (1, .int (nI sv)), (2, .int (nI i)), (3, .int (nI (dt_end dp n i))), (4, .int (dp i)), (6, .int (nI k))]) hx hb dX0_delete_66 hl (by decide) rfl (fun ls hl => ?_)
          refine lv_aload_n hx hb dX0_delete_68 rfl (lv_at hl 1 rfl) ?_
          refine dt_g0_dp E hu dX0_delete_69 ?_
          refine lv_iload hx hb dX0_delete_72 (lv_at hl 6 rfl) ?_
          refine lv_dup2_11 hx hb dX0_delete_74 rfl rfl ?_
          refine dt_l0_dp E hu (j := k) (by omega) dX0_delete_75 ?_
          refine lv_iconst (v := 1) hx hb dX0_delete_76 (by decide) ?_
          refine lv_isub hx hb dX0_delete_77 ?_
          refine dt_s0_dp E hu (j := k) (x := (g k) - 1) (by omega) dX0_delete_78 (fun H locs hu => ?_)
          refine lv_iinc (v := nI (k + 1)) (lv' := [(6, .int (nI (k + 1))), (5, .int (cv + (if g k = dp i + 1 then 1 else 0))), (0, .ref h0), (1, .int (nI sv)), (2, .int (nI i)), (3, .int (nI (dt_end dp n i))), (4, .int (dp i))]) hx hb dX0_delete_79 hl (k := 6) rfl (dt_inc _) (by decide) rfl (fun ls hl => ?_)
          refine lv_goto (tgt := 38) hx hb dX0_delete_82 (by decide) ?_
          exact ih (k + 1) _ _ H locs (by omega) hf hu ls (lv_sub hl [2, 3, 4, 5, 6, 1, 0] rfl)
    exact lp (dt_end dp n i - (i + 1)) (i + 1) 0 dp _ _ (by omega) rfl hu ls (lv_sub hl [5, 6, 4, 3, 2, 1, 0] rfl)
  · refine lv_iconst (v := (-1)) hx hb dX0_delete_8 (by decide) ?_
    rw [show dt_delete (made, n, st, sz, mr, kt, nb, sl, dp, pc, rt) x = (-1, (made, n, st, sz, mr, kt, nb, sl, dp, pc, rt)) from dt_delete_no (by rw [dt_b_f.mp c1]; decide)]
    exact dt_ri E hu dX0_delete_9

set_option maxHeartbeats 4000000 in
set_option maxRecDepth 100000 in
theorem m0_revoke (l : Launch) (D : va_G) (d : ClassId) (h0 : Nat) (a : Nat → Nat) (z : Nat) (made : Int32) (n : Nat) (st sz mr kt nb sl dp pc rt : dt_F) (x : Int32) (hW : dt_W0 (made, n, st, sz, mr, kt, nb, sl, dp, pc, rt)) : dt_Ci l yX0_revoke cX0_revoke 5 (some .int) (dt_rm 2 44) [(d, .int)] [.ref h0, .int x] (dt_w0 d h0 a (made, n, st, sz, mr, kt, nb, sl, dp, pc, rt)) (dt_w0 d h0 a (dt_revoke (made, n, st, sz, mr, kt, nb, sl, dp, pc, rt) x).2) ((dt_revoke (made, n, st, sz, mr, kt, nb, sl, dp, pc, rt) x).1) D z := by
  refine dt_Ci.ofW (own := RX0) (by decide) rfl (Nat.le_of_ble_eq_true rfl) ?_
  intro p e s m below meth c A ls E hu hl
  have hx := E.1
  have hb := E.2.1
  have hl : lv_has ls 5 [(0, .ref h0), (1, .int x)] := hl
  refine lv_aload_n hx hb dX0_revoke_0 rfl (lv_at hl 0 rfl) ?_
  refine lv_iload_n hx hb dX0_revoke_1 rfl (lv_at hl 1 rfl) ?_
  refine dt_k0_isHeld E hu  ⟨by decide, by decide⟩ hl.1 (Nat.le_of_ble_eq_true rfl) ⟨Nat.zero_le _, Nat.zero_le _⟩ dX0_revoke_2 (fun H locs hu => ?_)
  refine lv_if_ne (tgt := 10) hx hb dX0_revoke_5 (by decide) (fun c1 => ?_) (fun c1 => ?_)
  · have hh := dt_b_t.mp c1
    obtain ⟨sv, pv, i, hs, rfl, hp, hpq, hi, hpl⟩ := dt_W0_held hW hh
    have hn16 := dt_W0_n hW
    have hE := dt_end_le (dp := dp) hi
    obtain ⟨S, hS, hinj⟩ := dt_W0_S hW
    rw [show dt_revoke (made, n, st, sz, mr, kt, nb, sl, dp, pc, rt) (nI sv) = _ from dt_revoke_yes hh hpl]
    refine lv_aload_n hx hb dX0_revoke_10 rfl (lv_at hl 0 rfl) ?_
    refine lv_iload_n hx hb dX0_revoke_11 rfl (lv_at hl 1 rfl) ?_
    refine dt_k0_placeOf E hu hn16 ⟨by decide, by decide⟩ hl.1 (Nat.le_of_ble_eq_true rfl) ⟨Nat.zero_le _, Nat.zero_le _⟩ dX0_revoke_12 (fun H locs hu => ?_)
    refine dt_tp (show nI (dt_plc sl (nI sv) n) = nI i from (by rw [hpl])) ?_
    refine lv_istore_n (lv' := [(2, .int (nI i)), (0, .ref h0), (1, .int (nI sv))]) hx hb dX0_revoke_15 rfl hl (by decide) rfl (fun ls hl => ?_)
    refine lv_aload_n hx hb dX0_revoke_16 rfl (lv_at hl 1 rfl) ?_
    refine lv_iload_n hx hb dX0_revoke_17 rfl (lv_at hl 0 rfl) ?_
    refine dt_k0_endOfPart E hu hi hn16 ⟨by decide, by decide⟩ hl.1 (Nat.le_of_ble_eq_true rfl) ⟨Nat.zero_le _, Nat.zero_le _⟩ dX0_revoke_18 (fun H locs hu => ?_)
    refine lv_istore_n (lv' := [(3, .int (nI (dt_end dp n i))), (2, .int (nI i)), (0, .ref h0), (1, .int (nI sv))]) hx hb dX0_revoke_21 rfl hl (by decide) rfl (fun ls hl => ?_)
    refine lv_iload_n hx hb dX0_revoke_22 rfl (lv_at hl 1 rfl) ?_
    refine lv_iconst (v := 1) hx hb dX0_revoke_23 (by decide) ?_
    refine lv_iadd hx hb dX0_revoke_24 ?_
    refine dt_tp (show nI i + 1 = nI (i + 1) from nI_1 _) ?_
    refine lv_istore (lv' := [(4, .int (nI (i + 1))), (3, .int (nI (dt_end dp n i))), (2, .int (nI i)), (0, .ref h0), (1, .int (nI sv))]) hx hb dX0_revoke_25 hl (by decide) rfl (fun ls hl => ?_)
    have lp : ∀ (dd k : Nat) (kt1 pc1 : dt_F) (H : Heap) (locs : List Loc), k + dd = dt_end dp n i → (∀ j, k ≤ j → j < n → ∃ q, q < 16 ∧ pc1 (S j) = nI q) → dt_fgs sl dd k kt1 pc1 = dt_fgs sl (dt_end dp n i - (i + 1)) (i + 1) kt pc → dt_hq D A s (dt_w0 d h0 a (made, n, st, sz, mr, kt1, nb, sl, dp, pc1, rt)) H locs → ∀ (ls : Array Slot), lv_has ls 5 [(0, .ref h0), (1, .int (nI sv)), (2, .int (nI i)), (3, .int (nI (dt_end dp n i))), (4, .int (nI k))] → W p l e (dt_rm 2 44) s m ([.ref h0, .int (nI sv)] : List Value).toArray below meth c H locs 0 0 (MQ below (dt_QI [(d, .int)] (dt_w0 d h0 a (made, n - (dt_end dp n i - (i + 1)), st, sz, dt_rs st sz (dt_fgs sl (dt_end dp n i - (i + 1)) (i + 1) kt pc).1 nb 16 0 mr, (dt_fgs sl (dt_end dp n i - (i + 1)) (i + 1) kt pc).1, nb, dt_shd (dt_end dp n i - (i + 1)) (n - dt_end dp n i) (dt_end dp n i) sl, dt_shd (dt_end dp n i - (i + 1)) (n - dt_end dp n i) (dt_end dp n i) dp, (dt_fgs sl (dt_end dp n i - (i + 1)) (i + 1) kt pc).2, rt)) (nI (dt_end dp n i - (i + 1))) D A) ([.ref h0, .int (nI sv)] : List Value).toArray s 0 0 A) (F0 m 27 ls []) := by
      intro dd
      induction dd with
      | zero =>
        intro k kt1 pc1 H locs hk hpcs hf hu ls hl
        refine lv_iload hx hb dX0_revoke_27 (lv_at hl 4 rfl) ?_
        refine lv_iload_n hx hb dX0_revoke_29 rfl (lv_at hl 3 rfl) ?_
        refine lv_icmp_ge (tgt := 50) hx hb dX0_revoke_30 (by decide) (fun c2 => ?_) (fun c2 => absurd (nI_le (by omega) (by omega)) c2)
        rw [← hf]
        refine lv_aload_n hx hb dX0_revoke_50 rfl (lv_at hl 0 rfl) ?_
        refine lv_iload_n hx hb dX0_revoke_51 rfl (lv_at hl 2 rfl) ?_
        refine lv_iconst (v := 1) hx hb dX0_revoke_52 (by decide) ?_
        refine lv_iadd hx hb dX0_revoke_53 ?_
        refine dt_tp (show nI i + 1 = nI (i + 1) from nI_1 _) ?_
        refine lv_iload_n hx hb dX0_revoke_54 rfl (lv_at hl 3 rfl) ?_
        have hee : i + 1 + (dt_end dp n i - (i + 1)) = dt_end dp n i := by omega
        refine dt_tp (show nI (dt_end dp n i) = nI (i + 1 + (dt_end dp n i - (i + 1))) from (by rw [hee])) ?_
        refine dt_k0_cutRow E hu (by omega) hn16 ⟨by decide, by decide⟩ hl.1 (Nat.le_of_ble_eq_true rfl) ⟨Nat.zero_le _, Nat.zero_le _⟩ dX0_revoke_55 (fun H locs hu => ?_)
        rw [hee] at hu
        refine lv_aload_n hx hb dX0_revoke_58 rfl (lv_at hl 0 rfl) ?_
        refine dt_k0_resetMarks E hu  ⟨by decide, by decide⟩ hl.1 (Nat.le_of_ble_eq_true rfl) ⟨Nat.zero_le _, Nat.zero_le _⟩ dX0_revoke_59 (fun H locs hu => ?_)
        refine lv_iload_n hx hb dX0_revoke_62 rfl (lv_at hl 3 rfl) ?_
        refine lv_iload_n hx hb dX0_revoke_63 rfl (lv_at hl 2 rfl) ?_
        refine lv_isub hx hb dX0_revoke_64 ?_
        refine lv_iconst (v := 1) hx hb dX0_revoke_65 (by decide) ?_
        refine lv_isub hx hb dX0_revoke_66 ?_
        refine dt_tp (show nI (dt_end dp n i) - nI i - 1 = nI (dt_end dp n i - (i + 1)) from dt_sub1 hE.1) ?_
        exact dt_ri E hu dX0_revoke_67
      | succ dd ih =>
        intro k kt1 pc1 H locs hk hpcs hf hu ls hl
        refine lv_iload hx hb dX0_revoke_27 (lv_at hl 4 rfl) ?_
        refine lv_iload_n hx hb dX0_revoke_29 rfl (lv_at hl 3 rfl) ?_
        refine lv_icmp_ge (tgt := 50) hx hb dX0_revoke_30 (by decide) (fun c2 => absurd c2 (nI_ge (by omega) (by omega))) (fun c2 => ?_)
        obtain ⟨e1, e2, -⟩ := hS k (by omega)
        obtain ⟨q1, hq1, hpq1⟩ := hpcs k (Nat.le_refl k) (by omega)
        refine lv_aload_n hx hb dX0_revoke_33 rfl (lv_at hl 0 rfl) ?_
        refine lv_aload_n hx hb dX0_revoke_34 rfl (lv_at hl 0 rfl) ?_
        refine dt_g0_sl E hu dX0_revoke_35 ?_
        refine lv_iload hx hb dX0_revoke_38 (lv_at hl 4 rfl) ?_
        refine dt_l0_sl E hu (j := k) (by omega) dX0_revoke_40 ?_
        refine dt_tp (show sl k = nI (S k) from e1) ?_
        refine dt_k0_forgetKey E hu e2 hq1 hpq1 ⟨by decide, by decide⟩ hl.1 (Nat.le_of_ble_eq_true rfl) ⟨Nat.zero_le _, Nat.zero_le _⟩ dX0_revoke_41 (fun H locs hu => ?_)
        refine lv_iinc (v := nI (k + 1)) (lv' := [(4, .int (nI (k + 1))), (0, .ref h0), (1, .int (nI sv)), (2, .int (nI i)), (3, .int (nI (dt_end dp n i)))]) hx hb dX0_revoke_44 hl (k := 4) rfl (dt_inc _) (by decide) rfl (fun ls hl => ?_)
        refine lv_goto (tgt := 27) hx hb dX0_revoke_47 (by decide) ?_
        exact ih (k + 1) _ _ H locs (by omega) (fun j h1 h2 => by rw [pk_un (fun e => by have := hinj j k h2 (by omega) e; omega)]; exact hpcs j (by omega) h2) (by rw [← hf]; exact (dt_fgs_step e1 e2 hq1 hpq1).symm) hu ls (lv_sub hl [1, 2, 3, 4, 0] rfl)
    exact lp (dt_end dp n i - (i + 1)) (i + 1) kt pc _ _ (by omega) (fun j _ h2 => (hS j h2).2.2) rfl hu ls (lv_sub hl [3, 4, 2, 1, 0] rfl)
  · refine lv_iconst (v := (-1)) hx hb dX0_revoke_8 (by decide) ?_
    rw [show dt_revoke (made, n, st, sz, mr, kt, nb, sl, dp, pc, rt) x = (-1, (made, n, st, sz, mr, kt, nb, sl, dp, pc, rt)) from dt_revoke_no (by rw [dt_b_f.mp c1]; decide)]
    exact dt_ri E hu dX0_revoke_9
end
section
set_option maxRecDepth 100000

set_option maxHeartbeats 4000000 in
set_option maxRecDepth 100000 in
theorem m1_missing (l : Launch) (D : va_G) (d dz : ClassId) (h0 : Nat) (a : Nat → Nat) (z : Nat) (made : Int32) (hd pc rt par st sz mr nb gg : dt_F) (x : Int32)  : dt_Ci l yX1_missing cX1_missing 2 (some .boolean) (dt_rm 0 0) [(d, .int), (dz, .boolean)] [.ref h0, .int x] (dt_w1 d dz h0 a (hd, pc, rt, par, st, sz, mr, nb, made, gg)) (dt_w1 d dz h0 a (hd, pc, rt, par, st, sz, mr, nb, made, gg)) (dt_b (dt_ms hd x)) D z := by
  refine dt_Ci.ofW (own := RX1) (by decide) rfl (Nat.le_of_ble_eq_true rfl) ?_
  intro p e s m below meth c A ls E hu hl
  have hx := E.1
  have hb := E.2.1
  have hl : lv_has ls 2 [(0, .ref h0), (1, .int x)] := hl
  refine lv_iload_n hx hb dX1_missing_0 rfl (lv_at hl 1 rfl) ?_
  refine lv_if_lt (tgt := 19) hx hb dX1_missing_1 (by decide) (fun c1 => ?_) (fun c1 => ?_)
  · refine lv_iconst (v := dt_b true) hx hb dX1_missing_19 (by decide) ?_
    refine lv_goto (tgt := 24) hx hb dX1_missing_20 (by decide) ?_
    rw [show dt_ms hd x = true from by unfold dt_ms; rw [decide_eq_true c1]; rfl]
    exact dt_rz E hu dX1_missing_24
  · refine lv_iload_n hx hb dX1_missing_4 rfl (lv_at hl 1 rfl) ?_
    refine lv_bipush (v := 15) hx hb dX1_missing_5 (by decide) ?_
    refine lv_icmp_gt (tgt := 19) hx hb dX1_missing_7 (by decide) (fun c2 => ?_) (fun c2 => ?_)
    · refine lv_iconst (v := dt_b true) hx hb dX1_missing_19 (by decide) ?_
      refine lv_goto (tgt := 24) hx hb dX1_missing_20 (by decide) ?_
      rw [show dt_ms hd x = true from by unfold dt_ms; rw [decide_eq_false c1, decide_eq_true c2]; rfl]
      exact dt_rz E hu dX1_missing_24
    · obtain ⟨j, hj, rfl⟩ := dt_rng.mp ⟨c1, c2⟩
      refine lv_aload_n hx hb dX1_missing_10 rfl (lv_at hl 0 rfl) ?_
      refine dt_g1_hd E hu dX1_missing_11 ?_
      refine lv_iload_n hx hb dX1_missing_14 rfl (lv_at hl 1 rfl) ?_
      refine dt_l1_hd E hu (j := j) hj dX1_missing_15 ?_
      refine lv_if_ne (tgt := 23) hx hb dX1_missing_16 (by decide) (fun c3 => ?_) (fun c3 => ?_)
      · refine lv_iconst (v := dt_b false) hx hb dX1_missing_23 (by decide) ?_
        rw [show dt_ms hd (nI j) = false from by unfold dt_ms; rw [decide_eq_false c1, decide_eq_false c2, nI_clamp (by omega), decide_eq_false c3]; rfl]
        exact dt_rz E hu dX1_missing_24
      · refine lv_iconst (v := dt_b true) hx hb dX1_missing_19 (by decide) ?_
        refine lv_goto (tgt := 24) hx hb dX1_missing_20 (by decide) ?_
        rw [show dt_ms hd (nI j) = true from by unfold dt_ms; rw [decide_eq_false c1, decide_eq_false c2, nI_clamp (by omega), decide_eq_true c3]; rfl]
        exact dt_rz E hu dX1_missing_24

section DTK_1_missing
variable {p : Program} {l : Launch} {e : Env} {R : Room} {s : State} {m : MethodId} {args : Array Value} {below : List Frame} {meth : Method} {c : Code} {H : Heap} {locs : List Loc} {cells slots : Nat} {Q : State → Prop}
variable {cc : ByteArray} {nL : Nat} {own : String} {rty : Option FieldType} {D : va_G} {A : Nat → Prop} {pw : Nat} {ls : Array Slot} {rest : List Value} {d dz : ClassId} {h0 : Nat} {a : Nat → Nat}
theorem dt_k1_missing {made : Int32} {hd pc rt par st sz mr nb gg : dt_F} {x : Int32} (E : dt_ev p s m args meth c cc nL RX1 rty D [(d, .int), (dz, .boolean)]) (h : dt_hq D A s (dt_w1 d dz h0 a (hd, pc, rt, par, st, sz, mr, nb, made, gg)) H locs)  (hR : ((dt_rm 0 0)).frames + 1 ≤ R.frames ∧ 8 + (2 + 11) + ((dt_rm 0 0)).locals ≤ R.locals) (hsz : ls.size = nL) (hroom : (rest.map fun v => v.category).sum ≤ 8) (hf : cells ≤ R.cells ∧ slots ≤ R.slots) (hdg : decode cc pw = .ok (.invokevirtual 50, 3)) (kk : ∀ (H1 : Heap) (locs1 : List Loc), dt_hq D A s (dt_w1 d dz h0 a (hd, pc, rt, par, st, sz, mr, nb, made, gg)) H1 locs1 → W p l e R s m args below meth c H1 locs1 cells slots Q (F0 m (pw + 3) ls (.int (dt_b (dt_ms hd x)) :: rest))) : W p l e R s m args below meth c H locs cells slots Q (F0 m pw ls (.int x :: .ref h0 :: rest)) :=
  dt_c1i (As := [.int x]) (nA := 1) E h (m1_missing l D d dz h0 a H.size made hd pc rt par st sz mr nb gg x) (lw_V q190 q192 qs10 q20 q193) rfl (by decide +kernel) hR ⟨rfl, rfl⟩ hsz rfl hroom hdg hf kk
end DTK_1_missing

set_option maxHeartbeats 4000000 in
set_option maxRecDepth 100000 in
theorem m1_taken (l : Launch) (D : va_G) (d dz : ClassId) (h0 : Nat) (a : Nat → Nat) (z : Nat) (made : Int32) (hd pc rt par st sz mr nb gg : dt_F) (x : Int32)  : dt_Ci l yX1_taken cX1_taken 2 (some .boolean) (dt_rm 0 0) [(d, .int), (dz, .boolean)] [.ref h0, .int x] (dt_w1 d dz h0 a (hd, pc, rt, par, st, sz, mr, nb, made, gg)) (dt_w1 d dz h0 a (hd, pc, rt, par, st, sz, mr, nb, made, gg)) (dt_b (dt_tk hd x)) D z := by
  refine dt_Ci.ofW (own := RX1) (by decide) rfl (Nat.le_of_ble_eq_true rfl) ?_
  intro p e s m below meth c A ls E hu hl
  have hx := E.1
  have hb := E.2.1
  have hl : lv_has ls 2 [(0, .ref h0), (1, .int x)] := hl
  refine lv_iload_n hx hb dX1_taken_0 rfl (lv_at hl 1 rfl) ?_
  refine lv_if_lt (tgt := 19) hx hb dX1_taken_1 (by decide) (fun c1 => ?_) (fun c1 => ?_)
  · refine lv_iconst (v := dt_b true) hx hb dX1_taken_19 (by decide) ?_
    refine lv_goto (tgt := 24) hx hb dX1_taken_20 (by decide) ?_
    rw [show dt_tk hd x = true from by unfold dt_tk; rw [decide_eq_true c1]; rfl]
    exact dt_rz E hu dX1_taken_24
  · refine lv_iload_n hx hb dX1_taken_4 rfl (lv_at hl 1 rfl) ?_
    refine lv_bipush (v := 15) hx hb dX1_taken_5 (by decide) ?_
    refine lv_icmp_gt (tgt := 19) hx hb dX1_taken_7 (by decide) (fun c2 => ?_) (fun c2 => ?_)
    · refine lv_iconst (v := dt_b true) hx hb dX1_taken_19 (by decide) ?_
      refine lv_goto (tgt := 24) hx hb dX1_taken_20 (by decide) ?_
      rw [show dt_tk hd x = true from by unfold dt_tk; rw [decide_eq_false c1, decide_eq_true c2]; rfl]
      exact dt_rz E hu dX1_taken_24
    · obtain ⟨j, hj, rfl⟩ := dt_rng.mp ⟨c1, c2⟩
      refine lv_aload_n hx hb dX1_taken_10 rfl (lv_at hl 0 rfl) ?_
      refine dt_g1_hd E hu dX1_taken_11 ?_
      refine lv_iload_n hx hb dX1_taken_14 rfl (lv_at hl 1 rfl) ?_
      refine dt_l1_hd E hu (j := j) hj dX1_taken_15 ?_
      refine lv_if_eq (tgt := 23) hx hb dX1_taken_16 (by decide) (fun c3 => ?_) (fun c3 => ?_)
      · refine lv_iconst (v := dt_b false) hx hb dX1_taken_23 (by decide) ?_
        rw [show dt_tk hd (nI j) = false from by unfold dt_tk; rw [decide_eq_false c1, decide_eq_false c2, nI_clamp (by omega), decide_eq_true c3]; rfl]
        exact dt_rz E hu dX1_taken_24
      · refine lv_iconst (v := dt_b true) hx hb dX1_taken_19 (by decide) ?_
        refine lv_goto (tgt := 24) hx hb dX1_taken_20 (by decide) ?_
        rw [show dt_tk hd (nI j) = true from by unfold dt_tk; rw [decide_eq_false c1, decide_eq_false c2, nI_clamp (by omega), decide_eq_false c3]; rfl]
        exact dt_rz E hu dX1_taken_24

section DTK_1_taken
variable {p : Program} {l : Launch} {e : Env} {R : Room} {s : State} {m : MethodId} {args : Array Value} {below : List Frame} {meth : Method} {c : Code} {H : Heap} {locs : List Loc} {cells slots : Nat} {Q : State → Prop}
variable {cc : ByteArray} {nL : Nat} {own : String} {rty : Option FieldType} {D : va_G} {A : Nat → Prop} {pw : Nat} {ls : Array Slot} {rest : List Value} {d dz : ClassId} {h0 : Nat} {a : Nat → Nat}
theorem dt_k1_taken {made : Int32} {hd pc rt par st sz mr nb gg : dt_F} {x : Int32} (E : dt_ev p s m args meth c cc nL RX1 rty D [(d, .int), (dz, .boolean)]) (h : dt_hq D A s (dt_w1 d dz h0 a (hd, pc, rt, par, st, sz, mr, nb, made, gg)) H locs)  (hR : ((dt_rm 0 0)).frames + 1 ≤ R.frames ∧ 8 + (2 + 11) + ((dt_rm 0 0)).locals ≤ R.locals) (hsz : ls.size = nL) (hroom : (rest.map fun v => v.category).sum ≤ 8) (hf : cells ≤ R.cells ∧ slots ≤ R.slots) (hdg : decode cc pw = .ok (.invokevirtual 53, 3)) (kk : ∀ (H1 : Heap) (locs1 : List Loc), dt_hq D A s (dt_w1 d dz h0 a (hd, pc, rt, par, st, sz, mr, nb, made, gg)) H1 locs1 → W p l e R s m args below meth c H1 locs1 cells slots Q (F0 m (pw + 3) ls (.int (dt_b (dt_tk hd x)) :: rest))) : W p l e R s m args below meth c H locs cells slots Q (F0 m pw ls (.int x :: .ref h0 :: rest)) :=
  dt_c1i (As := [.int x]) (nA := 1) E h (m1_taken l D d dz h0 a H.size made hd pc rt par st sz mr nb gg x) (lw_V q194 q196 qs11 q20 q197) rfl (by decide +kernel) hR ⟨rfl, rfl⟩ hsz rfl hroom hdg hf kk
end DTK_1_taken

set_option maxHeartbeats 4000000 in
set_option maxRecDepth 100000 in
theorem m1_there (l : Launch) (D : va_G) (d dz : ClassId) (h0 : Nat) (a : Nat → Nat) (z : Nat) (made : Int32) (hd pc rt par st sz mr nb gg : dt_F) (x : Int32)  : dt_Ci l yX1_there cX1_there 3 (some .boolean) (dt_rm 0 0) [(d, .int), (dz, .boolean)] [.ref h0, .int x] (dt_w1 d dz h0 a (hd, pc, rt, par, st, sz, mr, nb, made, gg)) (dt_w1 d dz h0 a (hd, pc, rt, par, st, sz, mr, nb, made, gg)) (dt_b (dt_th hd pc x 16 0)) D z := by
  refine dt_Ci.ofW (own := RX1) (by decide) rfl (Nat.le_of_ble_eq_true rfl) ?_
  intro p e s m below meth c A ls E hu hl
  have hx := E.1
  have hb := E.2.1
  have hl : lv_has ls 3 [(0, .ref h0), (1, .int x)] := hl
  refine lv_iconst (v := nI 0) hx hb dX1_there_0 (by decide) ?_
  refine lv_istore_n (lv' := [(2, .int (nI 0)), (0, .ref h0), (1, .int x)]) hx hb dX1_there_1 rfl hl (by decide) rfl (fun ls hl => ?_)
  have lp : ∀ (dd : Nat) (k : Nat), k + dd = 16 → dt_th hd pc x dd k = dt_th hd pc x 16 0 → ∀ (ls : Array Slot), lv_has ls 3 [(0, .ref h0), (1, .int x), (2, .int (nI k))] → W p l e (dt_rm 0 0) s m ([.ref h0, .int x] : List Value).toArray below meth c s.heap [] 0 0 (MQ below (dt_QI [(d, .int), (dz, .boolean)] (dt_w1 d dz h0 a (hd, pc, rt, par, st, sz, mr, nb, made, gg)) (dt_b (dt_th hd pc x 16 0)) D A) ([.ref h0, .int x] : List Value).toArray s 0 0 A) (F0 m 2 ls []) := by
    intro dd
    induction dd with
    | zero =>
      intro k hk hf ls hl
      refine lv_iload_n hx hb dX1_there_2 rfl (lv_at hl 2 rfl) ?_
      refine lv_bipush (v := nI 16) hx hb dX1_there_3 (by decide) ?_
      refine lv_icmp_ge (tgt := 35) hx hb dX1_there_5 (by decide) (fun c1 => ?_) (fun c1 => absurd (nI_le (by omega) (by omega)) c1)
      rw [← hf]
      refine lv_iconst (v := dt_b false) hx hb dX1_there_35 (by decide) ?_
      exact dt_rz (b := dt_th hd pc x 0 k) E hu dX1_there_36
    | succ dd ih =>
      intro k hk hf ls hl
      refine lv_iload_n hx hb dX1_there_2 rfl (lv_at hl 2 rfl) ?_
      refine lv_bipush (v := nI 16) hx hb dX1_there_3 (by decide) ?_
      refine lv_icmp_ge (tgt := 35) hx hb dX1_there_5 (by decide) (fun c1 => absurd c1 (nI_ge (by omega) (by omega))) (fun c1 => ?_)
      refine lv_aload_n hx hb dX1_there_8 rfl (lv_at hl 0 rfl) ?_
      refine dt_g1_hd E hu dX1_there_9 ?_
      refine lv_iload_n hx hb dX1_there_12 rfl (lv_at hl 2 rfl) ?_
      refine dt_l1_hd E hu (j := k) (by omega) dX1_there_13 ?_
      refine lv_if_eq (tgt := 29) hx hb dX1_there_14 (by decide) (fun c2 => ?_) (fun c2 => ?_)
      · refine lv_iinc (v := nI (k + 1)) (lv' := [(2, .int (nI (k + 1))), (0, .ref h0), (1, .int x)]) hx hb dX1_there_29 hl (k := 2) rfl (dt_inc _) (by decide) rfl (fun ls hl => ?_)
        refine lv_goto (tgt := 2) hx hb dX1_there_32 (by decide) ?_
        have es : (!decide (hd k = 0) && decide (pc k = x)) = false := by rw [decide_eq_true c2]; rfl
        exact ih (k + 1) (by omega) (by rw [← hf]; show _ = ((!decide (hd k = 0) && decide (pc k = x)) || dt_th hd pc x dd (k + 1)); rw [es]; rfl) ls (lv_sub hl [1, 2, 0] rfl)
      · refine lv_aload_n hx hb dX1_there_17 rfl (lv_at hl 0 rfl) ?_
        refine dt_g1_pc E hu dX1_there_18 ?_
        refine lv_iload_n hx hb dX1_there_21 rfl (lv_at hl 2 rfl) ?_
        refine dt_l1_pc E hu (j := k) (by omega) dX1_there_22 ?_
        refine lv_iload_n hx hb dX1_there_23 rfl (lv_at hl 1 rfl) ?_
        refine lv_icmp_ne (tgt := 29) hx hb dX1_there_24 (by decide) (fun c3 => ?_) (fun c3 => ?_)
        · refine lv_iinc (v := nI (k + 1)) (lv' := [(2, .int (nI (k + 1))), (0, .ref h0), (1, .int x)]) hx hb dX1_there_29 hl (k := 2) rfl (dt_inc _) (by decide) rfl (fun ls hl => ?_)
          refine lv_goto (tgt := 2) hx hb dX1_there_32 (by decide) ?_
          have es : (!decide (hd k = 0) && decide (pc k = x)) = false := by rw [decide_eq_false c3, Bool.and_false]
          exact ih (k + 1) (by omega) (by rw [← hf]; show _ = ((!decide (hd k = 0) && decide (pc k = x)) || dt_th hd pc x dd (k + 1)); rw [es]; rfl) ls (lv_sub hl [1, 2, 0] rfl)
        · refine lv_iconst (v := dt_b true) hx hb dX1_there_27 (by decide) ?_
          rw [← hf, show dt_th hd pc x (dd + 1) k = true from by show ((!decide (hd k = 0) && decide (pc k = x)) || dt_th hd pc x dd (k + 1)) = true; rw [decide_eq_false c2, decide_eq_true c3]; rfl]
          exact dt_rz E hu dX1_there_28
  exact lp 16 0 (by omega) rfl ls (lv_sub hl [1, 2, 0] rfl)

section DTK_1_there
variable {p : Program} {l : Launch} {e : Env} {R : Room} {s : State} {m : MethodId} {args : Array Value} {below : List Frame} {meth : Method} {c : Code} {H : Heap} {locs : List Loc} {cells slots : Nat} {Q : State → Prop}
variable {cc : ByteArray} {nL : Nat} {own : String} {rty : Option FieldType} {D : va_G} {A : Nat → Prop} {pw : Nat} {ls : Array Slot} {rest : List Value} {d dz : ClassId} {h0 : Nat} {a : Nat → Nat}
theorem dt_k1_there {made : Int32} {hd pc rt par st sz mr nb gg : dt_F} {x : Int32} (E : dt_ev p s m args meth c cc nL RX1 rty D [(d, .int), (dz, .boolean)]) (h : dt_hq D A s (dt_w1 d dz h0 a (hd, pc, rt, par, st, sz, mr, nb, made, gg)) H locs)  (hR : ((dt_rm 0 0)).frames + 1 ≤ R.frames ∧ 8 + (3 + 11) + ((dt_rm 0 0)).locals ≤ R.locals) (hsz : ls.size = nL) (hroom : (rest.map fun v => v.category).sum ≤ 8) (hf : cells ≤ R.cells ∧ slots ≤ R.slots) (hdg : decode cc pw = .ok (.invokevirtual 46, 3)) (kk : ∀ (H1 : Heap) (locs1 : List Loc), dt_hq D A s (dt_w1 d dz h0 a (hd, pc, rt, par, st, sz, mr, nb, made, gg)) H1 locs1 → W p l e R s m args below meth c H1 locs1 cells slots Q (F0 m (pw + 3) ls (.int (dt_b (dt_th hd pc x 16 0)) :: rest))) : W p l e R s m args below meth c H locs cells slots Q (F0 m pw ls (.int x :: .ref h0 :: rest)) :=
  dt_c1i (As := [.int x]) (nA := 1) E h (m1_there l D d dz h0 a H.size made hd pc rt par st sz mr nb gg x) (lw_V q198 q200 qs12 q20 q201) rfl (by decide +kernel) hR ⟨rfl, rfl⟩ hsz rfl hroom hdg hf kk
end DTK_1_there

set_option maxHeartbeats 4000000 in
set_option maxRecDepth 100000 in
theorem m1_lies (l : Launch) (D : va_G) (d dz : ClassId) (h0 : Nat) (a : Nat → Nat) (z : Nat) (made : Int32) (hd pc rt par st sz mr nb gg : dt_F) (qv pv : Nat) (hq : qv < 16) (hp : pv < 16) : dt_Ci l yX1_lies cX1_lies 3 (some .boolean) (dt_rm 0 0) [(d, .int), (dz, .boolean)] [.ref h0, .int (nI qv), .int (nI pv)] (dt_w1 d dz h0 a (hd, pc, rt, par, st, sz, mr, nb, made, gg)) (dt_w1 d dz h0 a (hd, pc, rt, par, st, sz, mr, nb, made, gg)) (dt_b (dt_ls st sz nb qv pv)) D z := by
  refine dt_Ci.ofW (own := RX1) (by decide) rfl (Nat.le_of_ble_eq_true rfl) ?_
  intro p e s m below meth c A ls E hu hl
  have hx := E.1
  have hb := E.2.1
  have hl : lv_has ls 3 [(0, .ref h0), (1, .int (nI qv)), (2, .int (nI pv))] := hl
  refine lv_aload_n hx hb dX1_lies_0 rfl (lv_at hl 0 rfl) ?_
  refine dt_g1_nb E hu dX1_lies_1 ?_
  refine lv_iload_n hx hb dX1_lies_4 rfl (lv_at hl 1 rfl) ?_
  refine dt_l1_nb E hu (j := qv) hq dX1_lies_5 ?_
  refine lv_aload_n hx hb dX1_lies_6 rfl (lv_at hl 0 rfl) ?_
  refine dt_g1_nb E hu dX1_lies_7 ?_
  refine lv_iload_n hx hb dX1_lies_10 rfl (lv_at hl 2 rfl) ?_
  refine dt_l1_nb E hu (j := pv) hp dX1_lies_11 ?_
  refine lv_icmp_le (tgt := 63) hx hb dX1_lies_12 (by decide) (fun c1 => ?_) (fun c1 => ?_)
  · refine lv_iconst (v := dt_b false) hx hb dX1_lies_63 (by decide) ?_
    rw [show dt_ls st sz nb qv pv = false from by unfold dt_ls; rw [decide_eq_false (Int32.not_lt.mpr c1), Bool.false_and]]
    exact dt_rz E hu dX1_lies_64
  · refine lv_aload_n hx hb dX1_lies_15 rfl (lv_at hl 0 rfl) ?_
    refine dt_g1_st E hu dX1_lies_16 ?_
    refine lv_iload_n hx hb dX1_lies_19 rfl (lv_at hl 1 rfl) ?_
    refine dt_l1_st E hu (j := qv) hq dX1_lies_20 ?_
    refine lv_aload_n hx hb dX1_lies_21 rfl (lv_at hl 0 rfl) ?_
    refine dt_g1_st E hu dX1_lies_22 ?_
    refine lv_iload_n hx hb dX1_lies_25 rfl (lv_at hl 2 rfl) ?_
    refine dt_l1_st E hu (j := pv) hp dX1_lies_26 ?_
    refine lv_icmp_lt (tgt := 63) hx hb dX1_lies_27 (by decide) (fun c2 => ?_) (fun c2 => ?_)
    · refine lv_iconst (v := dt_b false) hx hb dX1_lies_63 (by decide) ?_
      rw [show dt_ls st sz nb qv pv = false from by unfold dt_ls; rw [decide_eq_false (Int32.not_le.mpr c2), Bool.false_and, Bool.and_false]]
      exact dt_rz E hu dX1_lies_64
    · refine lv_aload_n hx hb dX1_lies_30 rfl (lv_at hl 0 rfl) ?_
      refine dt_g1_st E hu dX1_lies_31 ?_
      refine lv_iload_n hx hb dX1_lies_34 rfl (lv_at hl 1 rfl) ?_
      refine dt_l1_st E hu (j := qv) hq dX1_lies_35 ?_
      refine lv_aload_n hx hb dX1_lies_36 rfl (lv_at hl 0 rfl) ?_
      refine dt_g1_sz E hu dX1_lies_37 ?_
      refine lv_iload_n hx hb dX1_lies_40 rfl (lv_at hl 1 rfl) ?_
      refine dt_l1_sz E hu (j := qv) hq dX1_lies_41 ?_
      refine lv_iadd hx hb dX1_lies_42 ?_
      refine lv_aload_n hx hb dX1_lies_43 rfl (lv_at hl 0 rfl) ?_
      refine dt_g1_st E hu dX1_lies_44 ?_
      refine lv_iload_n hx hb dX1_lies_47 rfl (lv_at hl 2 rfl) ?_
      refine dt_l1_st E hu (j := pv) hp dX1_lies_48 ?_
      refine lv_aload_n hx hb dX1_lies_49 rfl (lv_at hl 0 rfl) ?_
      refine dt_g1_sz E hu dX1_lies_50 ?_
      refine lv_iload_n hx hb dX1_lies_53 rfl (lv_at hl 2 rfl) ?_
      refine dt_l1_sz E hu (j := pv) hp dX1_lies_54 ?_
      refine lv_iadd hx hb dX1_lies_55 ?_
      refine lv_icmp_gt (tgt := 63) hx hb dX1_lies_56 (by decide) (fun c3 => ?_) (fun c3 => ?_)
      · refine lv_iconst (v := dt_b false) hx hb dX1_lies_63 (by decide) ?_
        rw [show dt_ls st sz nb qv pv = false from by unfold dt_ls; rw [decide_eq_false (Int32.not_le.mpr c3), Bool.and_false, Bool.and_false]]
        exact dt_rz E hu dX1_lies_64
      · refine lv_iconst (v := dt_b true) hx hb dX1_lies_59 (by decide) ?_
        refine lv_goto (tgt := 64) hx hb dX1_lies_60 (by decide) ?_
        rw [show dt_ls st sz nb qv pv = true from by unfold dt_ls; rw [decide_eq_true (Int32.not_le.mp c1), decide_eq_true (Int32.not_lt.mp c2), decide_eq_true (Int32.not_lt.mp c3)]; rw [show (true && (true && true)) = true from rfl]]
        exact dt_rz E hu dX1_lies_64

section DTK_1_lies
variable {p : Program} {l : Launch} {e : Env} {R : Room} {s : State} {m : MethodId} {args : Array Value} {below : List Frame} {meth : Method} {c : Code} {H : Heap} {locs : List Loc} {cells slots : Nat} {Q : State → Prop}
variable {cc : ByteArray} {nL : Nat} {own : String} {rty : Option FieldType} {D : va_G} {A : Nat → Prop} {pw : Nat} {ls : Array Slot} {rest : List Value} {d dz : ClassId} {h0 : Nat} {a : Nat → Nat}
theorem dt_k1_lies {made : Int32} {hd pc rt par st sz mr nb gg : dt_F} {qv pv : Nat} (E : dt_ev p s m args meth c cc nL RX1 rty D [(d, .int), (dz, .boolean)]) (h : dt_hq D A s (dt_w1 d dz h0 a (hd, pc, rt, par, st, sz, mr, nb, made, gg)) H locs) (hq : qv < 16) (hp : pv < 16) (hR : ((dt_rm 0 0)).frames + 1 ≤ R.frames ∧ 8 + (3 + 11) + ((dt_rm 0 0)).locals ≤ R.locals) (hsz : ls.size = nL) (hroom : (rest.map fun v => v.category).sum ≤ 8) (hf : cells ≤ R.cells ∧ slots ≤ R.slots) (hdg : decode cc pw = .ok (.invokevirtual 42, 3)) (kk : ∀ (H1 : Heap) (locs1 : List Loc), dt_hq D A s (dt_w1 d dz h0 a (hd, pc, rt, par, st, sz, mr, nb, made, gg)) H1 locs1 → W p l e R s m args below meth c H1 locs1 cells slots Q (F0 m (pw + 3) ls (.int (dt_b (dt_ls st sz nb qv pv)) :: rest))) : W p l e R s m args below meth c H locs cells slots Q (F0 m pw ls (.int (nI pv) :: .int (nI qv) :: .ref h0 :: rest)) :=
  dt_c1i (As := [.int (nI qv), .int (nI pv)]) (nA := 2) E h (m1_lies l D d dz h0 a H.size made hd pc rt par st sz mr nb gg qv pv hq hp) (lw_V q226 q228 qs16 q20 q229) rfl (by decide +kernel) hR ⟨rfl, rfl⟩ hsz rfl hroom hdg hf kk
end DTK_1_lies

set_option maxHeartbeats 4000000 in
set_option maxRecDepth 100000 in
theorem m1_hold (l : Launch) (D : va_G) (d dz : ClassId) (h0 : Nat) (a : Nat → Nat) (z : Nat) (made : Int32) (hd pc rt par st sz mr nb gg : dt_F) (tv : Nat) (q r y : Int32) (ht : tv < 16) : dt_Cv l yX1_hold cX1_hold 5 (dt_rm 0 0) [(d, .int), (dz, .boolean)] [.ref h0, .int (nI tv), .int q, .int r, .int y] (dt_w1 d dz h0 a (hd, pc, rt, par, st, sz, mr, nb, made, gg)) (dt_w1 d dz h0 a (upd hd tv 1, upd pc tv q, upd rt tv r, upd par tv y, st, sz, mr, nb, made, gg)) D z := by
  refine dt_Cv.ofW (own := RX1) (by decide) rfl (Nat.le_of_ble_eq_true rfl) ?_
  intro p e s m below meth c A ls E hu hl
  have hx := E.1
  have hb := E.2.1
  have hl : lv_has ls 5 [(0, .ref h0), (1, .int (nI tv)), (2, .int q), (3, .int r), (4, .int y)] := hl
  refine lv_aload_n hx hb dX1_hold_0 rfl (lv_at hl 0 rfl) ?_
  refine dt_g1_hd E hu dX1_hold_1 ?_
  refine lv_iload_n hx hb dX1_hold_4 rfl (lv_at hl 1 rfl) ?_
  refine lv_iconst (v := 1) hx hb dX1_hold_5 (by decide) ?_
  refine dt_s1_hd E hu (j := tv) (x := 1) rfl ht dX1_hold_6 (fun H locs hu => ?_)
  refine lv_aload_n hx hb dX1_hold_7 rfl (lv_at hl 0 rfl) ?_
  refine dt_g1_pc E hu dX1_hold_8 ?_
  refine lv_iload_n hx hb dX1_hold_11 rfl (lv_at hl 1 rfl) ?_
  refine lv_iload_n hx hb dX1_hold_12 rfl (lv_at hl 2 rfl) ?_
  refine dt_s1_pc E hu (j := tv) (x := q) ht dX1_hold_13 (fun H locs hu => ?_)
  refine lv_aload_n hx hb dX1_hold_14 rfl (lv_at hl 0 rfl) ?_
  refine dt_g1_rt E hu dX1_hold_15 ?_
  refine lv_iload_n hx hb dX1_hold_18 rfl (lv_at hl 1 rfl) ?_
  refine lv_iload_n hx hb dX1_hold_19 rfl (lv_at hl 3 rfl) ?_
  refine dt_s1_rt E hu (j := tv) (x := r) ht dX1_hold_20 (fun H locs hu => ?_)
  refine lv_aload_n hx hb dX1_hold_21 rfl (lv_at hl 0 rfl) ?_
  refine dt_g1_par E hu dX1_hold_22 ?_
  refine lv_iload_n hx hb dX1_hold_25 rfl (lv_at hl 1 rfl) ?_
  refine lv_iload hx hb dX1_hold_26 (lv_at hl 4 rfl) ?_
  refine dt_s1_par E hu (j := tv) (x := y) ht dX1_hold_28 (fun H locs hu => ?_)
  exact dt_rv E hu dX1_hold_29

section DTK_1_hold
variable {p : Program} {l : Launch} {e : Env} {R : Room} {s : State} {m : MethodId} {args : Array Value} {below : List Frame} {meth : Method} {c : Code} {H : Heap} {locs : List Loc} {cells slots : Nat} {Q : State → Prop}
variable {cc : ByteArray} {nL : Nat} {own : String} {rty : Option FieldType} {D : va_G} {A : Nat → Prop} {pw : Nat} {ls : Array Slot} {rest : List Value} {d dz : ClassId} {h0 : Nat} {a : Nat → Nat}
theorem dt_k1_hold {made : Int32} {hd pc rt par st sz mr nb gg : dt_F} {tv : Nat} {q r y : Int32} (E : dt_ev p s m args meth c cc nL RX1 rty D [(d, .int), (dz, .boolean)]) (h : dt_hq D A s (dt_w1 d dz h0 a (hd, pc, rt, par, st, sz, mr, nb, made, gg)) H locs) (ht : tv < 16) (hR : ((dt_rm 0 0)).frames + 1 ≤ R.frames ∧ 8 + (5 + 11) + ((dt_rm 0 0)).locals ≤ R.locals) (hsz : ls.size = nL) (hroom : (rest.map fun v => v.category).sum ≤ 8) (hf : cells ≤ R.cells ∧ slots ≤ R.slots) (hdg : decode cc pw = .ok (.invokevirtual 56, 3)) (kk : ∀ (H1 : Heap) (locs1 : List Loc), dt_hq D A s (dt_w1 d dz h0 a (upd hd tv 1, upd pc tv q, upd rt tv r, upd par tv y, st, sz, mr, nb, made, gg)) H1 locs1 → W p l e R s m args below meth c H1 locs1 cells slots Q (F0 m (pw + 3) ls rest)) : W p l e R s m args below meth c H locs cells slots Q (F0 m pw ls (.int y :: .int r :: .int q :: .int (nI tv) :: .ref h0 :: rest)) :=
  dt_c1v (As := [.int (nI tv), .int q, .int r, .int y]) (nA := 4) E h (m1_hold l D d dz h0 a H.size made hd pc rt par st sz mr nb gg tv q r y ht) (lw_V q202 q204 qs13 q20 q205) rfl (by decide +kernel) hR ⟨rfl, rfl⟩ hsz rfl hroom hdg hf kk
end DTK_1_hold

set_option maxHeartbeats 4000000 in
set_option maxRecDepth 100000 in
theorem m1_hand (l : Launch) (D : va_G) (d dz : ClassId) (h0 : Nat) (a : Nat → Nat) (z : Nat) (made : Int32) (hd pc rt par st sz mr nb gg : dt_F) (x y : Int32)  : dt_Ci l yX1_hand cX1_hand 5 (some .int) (dt_rm 0 0) [(d, .int), (dz, .boolean)] [.ref h0, .int x, .int y] (dt_w1 d dz h0 a (hd, pc, rt, par, st, sz, mr, nb, made, gg)) (dt_w1 d dz h0 a (hd, pc, rt, (dt_hn hd x y 16 0 0 par).2, st, sz, mr, nb, made, gg)) ((dt_hn hd x y 16 0 0 par).1) D z := by
  refine dt_Ci.ofW (own := RX1) (by decide) rfl (Nat.le_of_ble_eq_true rfl) ?_
  intro p e s m below meth c A ls E hu hl
  have hx := E.1
  have hb := E.2.1
  have hl : lv_has ls 5 [(0, .ref h0), (1, .int x), (2, .int y)] := hl
  refine lv_iconst (v := 0) hx hb dX1_hand_0 (by decide) ?_
  refine lv_istore_n (lv' := [(3, .int 0), (0, .ref h0), (1, .int x), (2, .int y)]) hx hb dX1_hand_1 rfl hl (by decide) rfl (fun ls hl => ?_)
  refine lv_iconst (v := nI 0) hx hb dX1_hand_2 (by decide) ?_
  refine lv_istore (lv' := [(4, .int (nI 0)), (3, .int 0), (0, .ref h0), (1, .int x), (2, .int y)]) hx hb dX1_hand_3 hl (by decide) rfl (fun ls hl => ?_)
  have lp : ∀ (dd : Nat) (k : Nat) (cv : Int32) (f : dt_F) (H : Heap) (locs : List Loc), k + dd = 16 → dt_hn hd x y dd k cv f = dt_hn hd x y 16 0 0 par → dt_hq D A s (dt_w1 d dz h0 a (hd, pc, rt, f, st, sz, mr, nb, made, gg)) H locs → ∀ (ls : Array Slot), lv_has ls 5 [(0, .ref h0), (1, .int x), (2, .int y), (3, .int cv), (4, .int (nI k))] → W p l e (dt_rm 0 0) s m ([.ref h0, .int x, .int y] : List Value).toArray below meth c H locs 0 0 (MQ below (dt_QI [(d, .int), (dz, .boolean)] (dt_w1 d dz h0 a (hd, pc, rt, (dt_hn hd x y 16 0 0 par).2, st, sz, mr, nb, made, gg)) ((dt_hn hd x y 16 0 0 par).1) D A) ([.ref h0, .int x, .int y] : List Value).toArray s 0 0 A) (F0 m 5 ls []) := by
    intro dd
    induction dd with
    | zero =>
      intro k cv f H locs hk hf hu ls hl
      refine lv_iload hx hb dX1_hand_5 (lv_at hl 4 rfl) ?_
      refine lv_bipush (v := nI 16) hx hb dX1_hand_7 (by decide) ?_
      refine lv_icmp_ge (tgt := 50) hx hb dX1_hand_9 (by decide) (fun c1 => ?_) (fun c1 => absurd (nI_le (by omega) (by omega)) c1)
      rw [← hf]
      refine lv_iload_n hx hb dX1_hand_50 rfl (lv_at hl 3 rfl) ?_
      exact dt_ri E hu dX1_hand_51
    | succ dd ih =>
      intro k cv f H locs hk hf hu ls hl
      refine lv_iload hx hb dX1_hand_5 (lv_at hl 4 rfl) ?_
      refine lv_bipush (v := nI 16) hx hb dX1_hand_7 (by decide) ?_
      refine lv_icmp_ge (tgt := 50) hx hb dX1_hand_9 (by decide) (fun c1 => absurd c1 (nI_ge (by omega) (by omega))) (fun c1 => ?_)
      refine lv_aload_n hx hb dX1_hand_12 rfl (lv_at hl 0 rfl) ?_
      refine dt_g1_hd E hu dX1_hand_13 ?_
      refine lv_iload hx hb dX1_hand_16 (lv_at hl 4 rfl) ?_
      refine dt_l1_hd E hu (j := k) (by omega) dX1_hand_18 ?_
      refine lv_if_eq (tgt := 44) hx hb dX1_hand_19 (by decide) (fun c2 => ?_) (fun c2 => ?_)
      · refine lv_iinc (v := nI (k + 1)) (lv' := [(4, .int (nI (k + 1))), (0, .ref h0), (1, .int x), (2, .int y), (3, .int cv)]) hx hb dX1_hand_44 hl (k := 4) rfl (dt_inc _) (by decide) rfl (fun ls hl => ?_)
        refine lv_goto (tgt := 5) hx hb dX1_hand_47 (by decide) ?_
        exact ih (k + 1) cv f H locs (by omega) (by rw [← hf]; exact (if_neg (fun q => q.1 c2)).symm) hu ls (lv_sub hl [1, 2, 3, 4, 0] rfl)
      · refine lv_aload_n hx hb dX1_hand_22 rfl (lv_at hl 0 rfl) ?_
        refine dt_g1_par E hu dX1_hand_23 ?_
        refine lv_iload hx hb dX1_hand_26 (lv_at hl 4 rfl) ?_
        refine dt_l1_par E hu (j := k) (by omega) dX1_hand_28 ?_
        refine lv_iload_n hx hb dX1_hand_29 rfl (lv_at hl 1 rfl) ?_
        refine lv_icmp_ne (tgt := 44) hx hb dX1_hand_30 (by decide) (fun c3 => ?_) (fun c3 => ?_)
        · refine lv_iinc (v := nI (k + 1)) (lv' := [(4, .int (nI (k + 1))), (0, .ref h0), (1, .int x), (2, .int y), (3, .int cv)]) hx hb dX1_hand_44 hl (k := 4) rfl (dt_inc _) (by decide) rfl (fun ls hl => ?_)
          refine lv_goto (tgt := 5) hx hb dX1_hand_47 (by decide) ?_
          exact ih (k + 1) cv f H locs (by omega) (by rw [← hf]; exact (if_neg (fun q => c3 q.2)).symm) hu ls (lv_sub hl [1, 2, 3, 4, 0] rfl)
        · refine lv_aload_n hx hb dX1_hand_33 rfl (lv_at hl 0 rfl) ?_
          refine dt_g1_par E hu dX1_hand_34 ?_
          refine lv_iload hx hb dX1_hand_37 (lv_at hl 4 rfl) ?_
          refine lv_iload_n hx hb dX1_hand_39 rfl (lv_at hl 2 rfl) ?_
          refine dt_s1_par E hu (j := k) (x := y) (by omega) dX1_hand_40 (fun H locs hu => ?_)
          refine lv_iinc (v := cv + 1) (lv' := [(3, .int (cv + 1)), (0, .ref h0), (1, .int x), (2, .int y), (4, .int (nI k))]) hx hb dX1_hand_41 hl (k := 3) rfl (dt_one _) (by decide) rfl (fun ls hl => ?_)
          refine lv_iinc (v := nI (k + 1)) (lv' := [(4, .int (nI (k + 1))), (3, .int (cv + 1)), (0, .ref h0), (1, .int x), (2, .int y)]) hx hb dX1_hand_44 hl (k := 4) rfl (dt_inc _) (by decide) rfl (fun ls hl => ?_)
          refine lv_goto (tgt := 5) hx hb dX1_hand_47 (by decide) ?_
          exact ih (k + 1) (cv + 1) (upd f k y) H locs (by omega) (by rw [← hf]; exact (if_pos ⟨c2, c3⟩).symm) hu ls (lv_sub hl [2, 3, 4, 1, 0] rfl)
  exact lp 16 0 0 par _ _ (by omega) rfl hu ls (lv_sub hl [2, 3, 4, 1, 0] rfl)

section DTK_1_hand
variable {p : Program} {l : Launch} {e : Env} {R : Room} {s : State} {m : MethodId} {args : Array Value} {below : List Frame} {meth : Method} {c : Code} {H : Heap} {locs : List Loc} {cells slots : Nat} {Q : State → Prop}
variable {cc : ByteArray} {nL : Nat} {own : String} {rty : Option FieldType} {D : va_G} {A : Nat → Prop} {pw : Nat} {ls : Array Slot} {rest : List Value} {d dz : ClassId} {h0 : Nat} {a : Nat → Nat}
theorem dt_k1_hand {made : Int32} {hd pc rt par st sz mr nb gg : dt_F} {x y : Int32} (E : dt_ev p s m args meth c cc nL RX1 rty D [(d, .int), (dz, .boolean)]) (h : dt_hq D A s (dt_w1 d dz h0 a (hd, pc, rt, par, st, sz, mr, nb, made, gg)) H locs)  (hR : ((dt_rm 0 0)).frames + 1 ≤ R.frames ∧ 8 + (5 + 11) + ((dt_rm 0 0)).locals ≤ R.locals) (hsz : ls.size = nL) (hroom : (rest.map fun v => v.category).sum ≤ 8) (hf : cells ≤ R.cells ∧ slots ≤ R.slots) (hdg : decode cc pw = .ok (.invokevirtual 60, 3)) (kk : ∀ (H1 : Heap) (locs1 : List Loc), dt_hq D A s (dt_w1 d dz h0 a (hd, pc, rt, (dt_hn hd x y 16 0 0 par).2, st, sz, mr, nb, made, gg)) H1 locs1 → W p l e R s m args below meth c H1 locs1 cells slots Q (F0 m (pw + 3) ls (.int ((dt_hn hd x y 16 0 0 par).1) :: rest))) : W p l e R s m args below meth c H locs cells slots Q (F0 m pw ls (.int y :: .int x :: .ref h0 :: rest)) :=
  dt_c1i (As := [.int x, .int y]) (nA := 2) E h (m1_hand l D d dz h0 a H.size made hd pc rt par st sz mr nb gg x y) (lw_V q214 q216 qs14 q20 q217) rfl (by decide +kernel) hR ⟨rfl, rfl⟩ hsz rfl hroom hdg hf kk
end DTK_1_hand

set_option maxHeartbeats 4000000 in
set_option maxRecDepth 100000 in
theorem m1_below (l : Launch) (D : va_G) (d dz : ClassId) (h0 : Nat) (a : Nat → Nat) (z : Nat) (made : Int32) (hd pc rt par st sz mr nb gg : dt_F) (x : Int32) (bv : Nat) (hbv : bv < 16) (hP : ∀ s, s < 16 → par s = -1 ∨ ∃ j, j < 16 ∧ par s = nI j) : dt_Ci l yX1_below cX1_below 5 (some .boolean) (dt_rm 0 0) [(d, .int), (dz, .boolean)] [.ref h0, .int x, .int (nI bv)] (dt_w1 d dz h0 a (hd, pc, rt, par, st, sz, mr, nb, made, gg)) (dt_w1 d dz h0 a (hd, pc, rt, par, st, sz, mr, nb, made, gg)) (dt_b (dt_bl par x 16 (par bv))) D z := by
  refine dt_Ci.ofW (own := RX1) (by decide) rfl (Nat.le_of_ble_eq_true rfl) ?_
  intro p e s m below meth c A ls E hu hl
  have hx := E.1
  have hb := E.2.1
  have hl : lv_has ls 5 [(0, .ref h0), (1, .int x), (2, .int (nI bv))] := hl
  refine lv_aload_n hx hb dX1_below_0 rfl (lv_at hl 0 rfl) ?_
  refine dt_g1_par E hu dX1_below_1 ?_
  refine lv_iload_n hx hb dX1_below_4 rfl (lv_at hl 2 rfl) ?_
  refine dt_l1_par E hu (j := bv) hbv dX1_below_5 ?_
  refine lv_istore_n (lv' := [(3, .int (par bv)), (0, .ref h0), (1, .int x), (2, .int (nI bv))]) hx hb dX1_below_6 rfl hl (by decide) rfl (fun ls hl => ?_)
  refine lv_iconst (v := nI 0) hx hb dX1_below_7 (by decide) ?_
  refine lv_istore (lv' := [(4, .int (nI 0)), (3, .int (par bv)), (0, .ref h0), (1, .int x), (2, .int (nI bv))]) hx hb dX1_below_8 hl (by decide) rfl (fun ls hl => ?_)
  have lp : ∀ (dd : Nat) (k : Nat) (v : Int32), k + dd = 16 → (v = -1 ∨ ∃ j, j < 16 ∧ v = nI j) → dt_bl par x dd v = dt_bl par x 16 (par bv) → ∀ (ls : Array Slot), lv_has ls 5 [(0, .ref h0), (1, .int x), (2, .int (nI bv)), (3, .int v), (4, .int (nI k))] → W p l e (dt_rm 0 0) s m ([.ref h0, .int x, .int (nI bv)] : List Value).toArray below meth c s.heap [] 0 0 (MQ below (dt_QI [(d, .int), (dz, .boolean)] (dt_w1 d dz h0 a (hd, pc, rt, par, st, sz, mr, nb, made, gg)) (dt_b (dt_bl par x 16 (par bv))) D A) ([.ref h0, .int x, .int (nI bv)] : List Value).toArray s 0 0 A) (F0 m 10 ls []) := by
    intro dd
    induction dd with
    | zero =>
      intro k v hk hv hf ls hl
      refine lv_iload hx hb dX1_below_10 (lv_at hl 4 rfl) ?_
      refine lv_bipush (v := nI 16) hx hb dX1_below_12 (by decide) ?_
      refine lv_icmp_ge (tgt := 41) hx hb dX1_below_14 (by decide) (fun c1 => ?_) (fun c1 => absurd (nI_le (by omega) (by omega)) c1)
      rw [← hf]
      refine lv_iconst (v := dt_b false) hx hb dX1_below_41 (by decide) ?_
      exact dt_rz (b := dt_bl par x 0 v) E hu dX1_below_42
    | succ dd ih =>
      intro k v hk hv hf ls hl
      refine lv_iload hx hb dX1_below_10 (lv_at hl 4 rfl) ?_
      refine lv_bipush (v := nI 16) hx hb dX1_below_12 (by decide) ?_
      refine lv_icmp_ge (tgt := 41) hx hb dX1_below_14 (by decide) (fun c1 => absurd c1 (nI_ge (by omega) (by omega))) (fun c1 => ?_)
      refine lv_iload_n hx hb dX1_below_17 rfl (lv_at hl 3 rfl) ?_
      refine lv_if_lt (tgt := 41) hx hb dX1_below_18 (by decide) (fun c2 => ?_) (fun c2 => ?_)
      · refine lv_iconst (v := dt_b false) hx hb dX1_below_41 (by decide) ?_
        rw [← hf, show dt_bl par x (dd + 1) v = false from if_pos c2]
        exact dt_rz E hu dX1_below_42
      · refine lv_iload_n hx hb dX1_below_21 rfl (lv_at hl 3 rfl) ?_
        refine lv_iload_n hx hb dX1_below_22 rfl (lv_at hl 1 rfl) ?_
        refine lv_icmp_ne (tgt := 28) hx hb dX1_below_23 (by decide) (fun c3 => ?_) (fun c3 => ?_)
        · obtain ⟨j, hj, rfl⟩ := hv.resolve_left (fun q => c2 (by rw [q]; exact dt_m1))
          refine lv_aload_n hx hb dX1_below_28 rfl (lv_at hl 0 rfl) ?_
          refine dt_g1_par E hu dX1_below_29 ?_
          refine lv_iload_n hx hb dX1_below_32 rfl (lv_at hl 3 rfl) ?_
          refine dt_l1_par E hu (j := j) hj dX1_below_33 ?_
          refine lv_istore_n (lv' := [(3, .int (par j)), (0, .ref h0), (1, .int x), (2, .int (nI bv)), (4, .int (nI k))]) hx hb dX1_below_34 rfl hl (by decide) rfl (fun ls hl => ?_)
          refine lv_iinc (v := nI (k + 1)) (lv' := [(4, .int (nI (k + 1))), (3, .int (par j)), (0, .ref h0), (1, .int x), (2, .int (nI bv))]) hx hb dX1_below_35 hl (k := 4) rfl (dt_inc _) (by decide) rfl (fun ls hl => ?_)
          refine lv_goto (tgt := 10) hx hb dX1_below_38 (by decide) ?_
          exact ih (k + 1) (par j) (by omega) (hP j hj) (by rw [← hf]; exact ((if_neg c2).trans ((if_neg c3).trans (by rw [nI_clamp (by omega)]))).symm) ls (lv_sub hl [2, 3, 4, 1, 0] rfl)
        · refine lv_iconst (v := dt_b true) hx hb dX1_below_26 (by decide) ?_
          rw [← hf, show dt_bl par x (dd + 1) v = true from (if_neg c2).trans (if_pos c3)]
          exact dt_rz E hu dX1_below_27
  exact lp 16 0 (par bv) (by omega) (hP bv hbv) rfl ls (lv_sub hl [2, 3, 4, 1, 0] rfl)

section DTK_1_below
variable {p : Program} {l : Launch} {e : Env} {R : Room} {s : State} {m : MethodId} {args : Array Value} {below : List Frame} {meth : Method} {c : Code} {H : Heap} {locs : List Loc} {cells slots : Nat} {Q : State → Prop}
variable {cc : ByteArray} {nL : Nat} {own : String} {rty : Option FieldType} {D : va_G} {A : Nat → Prop} {pw : Nat} {ls : Array Slot} {rest : List Value} {d dz : ClassId} {h0 : Nat} {a : Nat → Nat}
theorem dt_k1_below {made : Int32} {hd pc rt par st sz mr nb gg : dt_F} {x : Int32} {bv : Nat} (E : dt_ev p s m args meth c cc nL RX1 rty D [(d, .int), (dz, .boolean)]) (h : dt_hq D A s (dt_w1 d dz h0 a (hd, pc, rt, par, st, sz, mr, nb, made, gg)) H locs) (hbv : bv < 16) (hP : ∀ s, s < 16 → par s = -1 ∨ ∃ j, j < 16 ∧ par s = nI j) (hR : ((dt_rm 0 0)).frames + 1 ≤ R.frames ∧ 8 + (5 + 11) + ((dt_rm 0 0)).locals ≤ R.locals) (hsz : ls.size = nL) (hroom : (rest.map fun v => v.category).sum ≤ 8) (hf : cells ≤ R.cells ∧ slots ≤ R.slots) (hdg : decode cc pw = .ok (.invokevirtual 67, 3)) (kk : ∀ (H1 : Heap) (locs1 : List Loc), dt_hq D A s (dt_w1 d dz h0 a (hd, pc, rt, par, st, sz, mr, nb, made, gg)) H1 locs1 → W p l e R s m args below meth c H1 locs1 cells slots Q (F0 m (pw + 3) ls (.int (dt_b (dt_bl par x 16 (par bv))) :: rest))) : W p l e R s m args below meth c H locs cells slots Q (F0 m pw ls (.int (nI bv) :: .int x :: .ref h0 :: rest)) :=
  dt_c1i (As := [.int x, .int (nI bv)]) (nA := 2) E h (m1_below l D d dz h0 a H.size made hd pc rt par st sz mr nb gg x bv hbv hP) (lw_V q234 q236 qs17 q20 q237) rfl (by decide +kernel) hR ⟨rfl, rfl⟩ hsz rfl hroom hdg hf kk
end DTK_1_below

set_option maxHeartbeats 4000000 in
set_option maxRecDepth 100000 in
theorem m1_settle (l : Launch) (D : va_G) (d dz : ClassId) (h0 : Nat) (a : Nat → Nat) (z : Nat) (made : Int32) (hd pc rt par st sz mr nb gg : dt_F)   : dt_Cv l yX1_settle cX1_settle 4 (dt_rm 1 22) [(d, .int), (dz, .boolean)] [.ref h0] (dt_w1 d dz h0 a (hd, pc, rt, par, st, sz, mr, nb, made, gg)) (dt_w1 d dz h0 a (hd, pc, rt, par, st, sz, dt_se hd pc st sz nb 16 0 mr, nb, made, gg)) D z := by
  refine dt_Cv.ofW (own := RX1) (by decide) rfl (Nat.le_of_ble_eq_true rfl) ?_
  intro p e s m below meth c A ls E hu hl
  have hx := E.1
  have hb := E.2.1
  have hl : lv_has ls 4 [(0, .ref h0)] := hl
  refine lv_iconst (v := nI 0) hx hb dX1_settle_0 (by decide) ?_
  refine lv_istore_n (lv' := [(1, .int (nI 0)), (0, .ref h0)]) hx hb dX1_settle_1 rfl hl (by decide) rfl (fun ls hl => ?_)
  have lp : ∀ (dd : Nat) (k : Nat) (f : dt_F) (H : Heap) (locs : List Loc), k + dd = 16 → dt_se hd pc st sz nb dd k f = dt_se hd pc st sz nb 16 0 mr → dt_hq D A s (dt_w1 d dz h0 a (hd, pc, rt, par, st, sz, f, nb, made, gg)) H locs → ∀ (ls : Array Slot), lv_has ls 4 [(0, .ref h0), (1, .int (nI k))] → W p l e (dt_rm 1 22) s m ([.ref h0] : List Value).toArray below meth c H locs 0 0 (MQ below (dt_QV [(d, .int), (dz, .boolean)] (dt_w1 d dz h0 a (hd, pc, rt, par, st, sz, dt_se hd pc st sz nb 16 0 mr, nb, made, gg)) D A) ([.ref h0] : List Value).toArray s 0 0 A) (F0 m 2 ls []) := by
    intro dd
    induction dd with
    | zero =>
      intro k f H locs hk hf hu ls hl
      refine lv_iload_n hx hb dX1_settle_2 rfl (lv_at hl 1 rfl) ?_
      refine lv_bipush (v := nI 16) hx hb dX1_settle_3 (by decide) ?_
      refine lv_icmp_ge (tgt := 60) hx hb dX1_settle_5 (by decide) (fun c1 => ?_) (fun c1 => absurd (nI_le (by omega) (by omega)) c1)
      rw [← hf]
      exact dt_rv E hu dX1_settle_60
    | succ dd ih =>
      intro k f H locs hk hf hu ls hl
      refine lv_iload_n hx hb dX1_settle_2 rfl (lv_at hl 1 rfl) ?_
      refine lv_bipush (v := nI 16) hx hb dX1_settle_3 (by decide) ?_
      refine lv_icmp_ge (tgt := 60) hx hb dX1_settle_5 (by decide) (fun c1 => absurd c1 (nI_ge (by omega) (by omega))) (fun c1 => ?_)
      refine lv_iconst (v := dt_b false) hx hb dX1_settle_8 (by decide) ?_
      refine lv_istore_n (lv' := [(2, .int (dt_b false)), (0, .ref h0), (1, .int (nI k))]) hx hb dX1_settle_9 rfl hl (by decide) rfl (fun ls hl => ?_)
      refine lv_iconst (v := nI 0) hx hb dX1_settle_10 (by decide) ?_
      refine lv_istore_n (lv' := [(3, .int (nI 0)), (2, .int (dt_b false)), (0, .ref h0), (1, .int (nI k))]) hx hb dX1_settle_11 rfl hl (by decide) rfl (fun ls hl => ?_)
      have lq : ∀ (d2 j : Nat) (b : Bool) (H : Heap) (locs : List Loc), j + d2 = 16 → dt_an hd pc st sz nb k d2 j b = dt_an hd pc st sz nb k 16 0 false → dt_hq D A s (dt_w1 d dz h0 a (hd, pc, rt, par, st, sz, f, nb, made, gg)) H locs → ∀ (ls : Array Slot), lv_has ls 4 [(0, .ref h0), (1, .int (nI k)), (2, .int (dt_b b)), (3, .int (nI j))] → W p l e (dt_rm 1 22) s m ([.ref h0] : List Value).toArray below meth c H locs 0 0 (MQ below (dt_QV [(d, .int), (dz, .boolean)] (dt_w1 d dz h0 a (hd, pc, rt, par, st, sz, dt_se hd pc st sz nb 16 0 mr, nb, made, gg)) D A) ([.ref h0] : List Value).toArray s 0 0 A) (F0 m 12 ls []) := by
        intro d2
        induction d2 with
        | zero =>
          intro j b H locs hj hb2 hu ls hl
          refine lv_iload_n hx hb dX1_settle_12 rfl (lv_at hl 3 rfl) ?_
          refine lv_bipush (v := nI 16) hx hb dX1_settle_13 (by decide) ?_
          refine lv_icmp_ge (tgt := 43) hx hb dX1_settle_15 (by decide) (fun c2 => ?_) (fun c2 => absurd (nI_le (by omega) (by omega)) c2)
          refine lv_iload_n hx hb dX1_settle_43 rfl (lv_at hl 2 rfl) ?_
          refine lv_if_ne (tgt := 54) hx hb dX1_settle_44 (by decide) (fun c3 => ?_) (fun c3 => ?_)
          · refine lv_iinc (v := nI (k + 1)) (lv' := [(1, .int (nI (k + 1))), (0, .ref h0), (2, .int (dt_b b)), (3, .int (nI j))]) hx hb dX1_settle_54 hl (k := 1) rfl (dt_inc _) (by decide) rfl (fun ls hl => ?_)
            refine lv_goto (tgt := 2) hx hb dX1_settle_57 (by decide) ?_
            exact ih (k + 1) f H locs (by omega) (by rw [← hf]; show _ = dt_se hd pc st sz nb dd (k + 1) (if dt_an hd pc st sz nb k 16 0 false = false then upd f k 0 else f); rw [if_neg (fun q => by have h9 := dt_b_t.mp c3; have h8 : b = false := hb2.trans q; rw [h8] at h9; cases h9)]) hu ls (lv_sub hl [1, 0] rfl)
          · refine lv_aload_n hx hb dX1_settle_47 rfl (lv_at hl 0 rfl) ?_
            refine dt_g1_mr E hu dX1_settle_48 ?_
            refine lv_iload_n hx hb dX1_settle_51 rfl (lv_at hl 1 rfl) ?_
            refine lv_iconst (v := 0) hx hb dX1_settle_52 (by decide) ?_
            refine dt_s1_mr E hu (j := k) (x := 0) (by omega) dX1_settle_53 (fun H locs hu => ?_)
            refine lv_iinc (v := nI (k + 1)) (lv' := [(1, .int (nI (k + 1))), (0, .ref h0), (2, .int (dt_b b)), (3, .int (nI j))]) hx hb dX1_settle_54 hl (k := 1) rfl (dt_inc _) (by decide) rfl (fun ls hl => ?_)
            refine lv_goto (tgt := 2) hx hb dX1_settle_57 (by decide) ?_
            exact ih (k + 1) (upd f k 0) H locs (by omega) (by rw [← hf]; show _ = dt_se hd pc st sz nb dd (k + 1) (if dt_an hd pc st sz nb k 16 0 false = false then upd f k 0 else f); rw [if_pos (hb2.symm.trans (dt_b_f.mp c3))]) hu ls (lv_sub hl [1, 0] rfl)
        | succ d2 ih2 =>
          intro j b H locs hj hb2 hu ls hl
          refine lv_iload_n hx hb dX1_settle_12 rfl (lv_at hl 3 rfl) ?_
          refine lv_bipush (v := nI 16) hx hb dX1_settle_13 (by decide) ?_
          refine lv_icmp_ge (tgt := 43) hx hb dX1_settle_15 (by decide) (fun c2 => absurd c2 (nI_ge (by omega) (by omega))) (fun c2 => ?_)
          refine lv_aload_n hx hb dX1_settle_18 rfl (lv_at hl 0 rfl) ?_
          refine lv_iload_n hx hb dX1_settle_19 rfl (lv_at hl 3 rfl) ?_
          refine lv_iload_n hx hb dX1_settle_20 rfl (lv_at hl 1 rfl) ?_
          refine dt_k1_lies E hu (by omega) (by omega) ⟨by decide, by decide⟩ hl.1 (Nat.le_of_ble_eq_true rfl) ⟨Nat.zero_le _, Nat.zero_le _⟩ dX1_settle_21 (fun H locs hu => ?_)
          refine lv_if_eq (tgt := 37) hx hb dX1_settle_24 (by decide) (fun c3 => ?_) (fun c3 => ?_)
          · refine lv_iinc (v := nI (j + 1)) (lv' := [(3, .int (nI (j + 1))), (0, .ref h0), (1, .int (nI k)), (2, .int (dt_b b))]) hx hb dX1_settle_37 hl (k := 3) rfl (dt_inc _) (by decide) rfl (fun ls hl => ?_)
            refine lv_goto (tgt := 12) hx hb dX1_settle_40 (by decide) ?_
            exact ih2 (j + 1) b H locs (by omega) (by rw [← hb2]; show _ = dt_an hd pc st sz nb k d2 (j + 1) (if dt_ls st sz nb j k = true ∧ dt_th hd pc (nI j) 16 0 = true then true else b); rw [if_neg (fun q => by rw [dt_b_f.mp c3] at q; cases q.1)]) hu ls (lv_sub hl [1, 2, 3, 0] rfl)
          · refine lv_aload_n hx hb dX1_settle_27 rfl (lv_at hl 0 rfl) ?_
            refine lv_iload_n hx hb dX1_settle_28 rfl (lv_at hl 3 rfl) ?_
            refine dt_k1_there E hu  ⟨by decide, by decide⟩ hl.1 (Nat.le_of_ble_eq_true rfl) ⟨Nat.zero_le _, Nat.zero_le _⟩ dX1_settle_29 (fun H locs hu => ?_)
            refine lv_if_eq (tgt := 37) hx hb dX1_settle_32 (by decide) (fun c4 => ?_) (fun c4 => ?_)
            · refine lv_iinc (v := nI (j + 1)) (lv' := [(3, .int (nI (j + 1))), (0, .ref h0), (1, .int (nI k)), (2, .int (dt_b b))]) hx hb dX1_settle_37 hl (k := 3) rfl (dt_inc _) (by decide) rfl (fun ls hl => ?_)
              refine lv_goto (tgt := 12) hx hb dX1_settle_40 (by decide) ?_
              exact ih2 (j + 1) b H locs (by omega) (by rw [← hb2]; show _ = dt_an hd pc st sz nb k d2 (j + 1) (if dt_ls st sz nb j k = true ∧ dt_th hd pc (nI j) 16 0 = true then true else b); rw [if_neg (fun q => by rw [dt_b_f.mp c4] at q; cases q.2)]) hu ls (lv_sub hl [1, 2, 3, 0] rfl)
            · refine lv_iconst (v := dt_b true) hx hb dX1_settle_35 (by decide) ?_
              refine lv_istore_n (lv' := [(2, .int (dt_b true)), (0, .ref h0), (1, .int (nI k)), (3, .int (nI j))]) hx hb dX1_settle_36 rfl hl (by decide) rfl (fun ls hl => ?_)
              refine lv_iinc (v := nI (j + 1)) (lv' := [(3, .int (nI (j + 1))), (2, .int (dt_b true)), (0, .ref h0), (1, .int (nI k))]) hx hb dX1_settle_37 hl (k := 3) rfl (dt_inc _) (by decide) rfl (fun ls hl => ?_)
              refine lv_goto (tgt := 12) hx hb dX1_settle_40 (by decide) ?_
              exact ih2 (j + 1) true H locs (by omega) (by rw [← hb2]; show _ = dt_an hd pc st sz nb k d2 (j + 1) (if dt_ls st sz nb j k = true ∧ dt_th hd pc (nI j) 16 0 = true then true else b); rw [if_pos ⟨dt_b_t.mp c3, dt_b_t.mp c4⟩]) hu ls (lv_sub hl [2, 3, 1, 0] rfl)
      exact lq 16 0 false _ _ (by omega) rfl hu ls (lv_sub hl [2, 3, 1, 0] rfl)
  exact lp 16 0 mr _ _ (by omega) rfl hu ls (lv_sub hl [1, 0] rfl)

section DTK_1_settle
variable {p : Program} {l : Launch} {e : Env} {R : Room} {s : State} {m : MethodId} {args : Array Value} {below : List Frame} {meth : Method} {c : Code} {H : Heap} {locs : List Loc} {cells slots : Nat} {Q : State → Prop}
variable {cc : ByteArray} {nL : Nat} {own : String} {rty : Option FieldType} {D : va_G} {A : Nat → Prop} {pw : Nat} {ls : Array Slot} {rest : List Value} {d dz : ClassId} {h0 : Nat} {a : Nat → Nat}
theorem dt_k1_settle {made : Int32} {hd pc rt par st sz mr nb gg : dt_F}  (E : dt_ev p s m args meth c cc nL RX1 rty D [(d, .int), (dz, .boolean)]) (h : dt_hq D A s (dt_w1 d dz h0 a (hd, pc, rt, par, st, sz, mr, nb, made, gg)) H locs)  (hR : ((dt_rm 1 22)).frames + 1 ≤ R.frames ∧ 8 + (4 + 11) + ((dt_rm 1 22)).locals ≤ R.locals) (hsz : ls.size = nL) (hroom : (rest.map fun v => v.category).sum ≤ 8) (hf : cells ≤ R.cells ∧ slots ≤ R.slots) (hdg : decode cc pw = .ok (.invokevirtual 64, 3)) (kk : ∀ (H1 : Heap) (locs1 : List Loc), dt_hq D A s (dt_w1 d dz h0 a (hd, pc, rt, par, st, sz, dt_se hd pc st sz nb 16 0 mr, nb, made, gg)) H1 locs1 → W p l e R s m args below meth c H1 locs1 cells slots Q (F0 m (pw + 3) ls rest)) : W p l e R s m args below meth c H locs cells slots Q (F0 m pw ls (.ref h0 :: rest)) :=
  dt_c1v (As := []) (nA := 0) E h (m1_settle l D d dz h0 a H.size made hd pc rt par st sz mr nb gg ) (lw_V q222 q224 qs15 q20 q225) rfl (by decide +kernel) hR ⟨rfl, rfl⟩ hsz rfl hroom hdg hf kk
end DTK_1_settle
end
section
set_option maxRecDepth 100000

set_option maxHeartbeats 4000000 in
set_option maxRecDepth 100000 in
theorem m1_piece (l : Launch) (D : va_G) (d dz : ClassId) (h0 : Nat) (a : Nat → Nat) (z : Nat) (made : Int32) (hd pc rt par st sz mr nb gg : dt_F) (x : Int32) (hW : dt_W1 (hd, pc, rt, par, st, sz, mr, nb, made, gg)) : dt_Ci l yX1_piece cX1_piece 2 (some .int) (dt_rm 1 21) [(d, .int), (dz, .boolean)] [.ref h0, .int x] (dt_w1 d dz h0 a (hd, pc, rt, par, st, sz, mr, nb, made, gg)) (dt_w1 d dz h0 a (hd, pc, rt, par, st, sz, mr, nb, made, gg)) (dm_piece (hd, pc, rt, par, st, sz, mr, nb, made, gg) x) D z := by
  refine dt_Ci.ofW (own := RX1) (by decide) rfl (Nat.le_of_ble_eq_true rfl) ?_
  intro p e s m below meth c A ls E hu hl
  have hx := E.1
  have hb := E.2.1
  have hl : lv_has ls 2 [(0, .ref h0), (1, .int x)] := hl
  have hW : dt_Wf1 pc par := hW
  refine lv_aload_n hx hb dX1_piece_0 rfl (lv_at hl 0 rfl) ?_
  refine lv_iload_n hx hb dX1_piece_1 rfl (lv_at hl 1 rfl) ?_
  refine dt_k1_missing E hu  ⟨by decide, by decide⟩ hl.1 (Nat.le_of_ble_eq_true rfl) ⟨Nat.zero_le _, Nat.zero_le _⟩ dX1_piece_2 (fun H locs hu => ?_)
  refine lv_if_eq (tgt := 12) hx hb dX1_piece_5 (by decide) (fun c1 => ?_) (fun c1 => ?_)
  · have hh := dt_b_f.mp c1
    obtain ⟨sv, hs, rfl, hg⟩ := dt_ms_iff.mp hh
    obtain ⟨pv, hp, hpq⟩ := (hW sv hs).1
    rw [show dm_piece (hd, pc, rt, par, st, sz, mr, nb, made, gg) (nI sv) = _ from dm_piece_yes hh hs hp hpq]
    refine lv_bipush (v := 100) hx hb dX1_piece_12 (by decide) ?_
    refine lv_aload_n hx hb dX1_piece_14 rfl (lv_at hl 0 rfl) ?_
    refine dt_g1_st E hu dX1_piece_15 ?_
    refine lv_aload_n hx hb dX1_piece_18 rfl (lv_at hl 0 rfl) ?_
    refine dt_g1_pc E hu dX1_piece_19 ?_
    refine lv_iload_n hx hb dX1_piece_22 rfl (lv_at hl 1 rfl) ?_
    refine dt_l1_pc E hu (j := sv) (by omega) dX1_piece_23 ?_
    refine dt_tp (show pc sv = nI pv from hpq) ?_
    refine dt_l1_st E hu (j := pv) (by omega) dX1_piece_24 ?_
    refine lv_imul hx hb dX1_piece_25 ?_
    refine lv_aload_n hx hb dX1_piece_26 rfl (lv_at hl 0 rfl) ?_
    refine dt_g1_sz E hu dX1_piece_27 ?_
    refine lv_aload_n hx hb dX1_piece_30 rfl (lv_at hl 0 rfl) ?_
    refine dt_g1_pc E hu dX1_piece_31 ?_
    refine lv_iload_n hx hb dX1_piece_34 rfl (lv_at hl 1 rfl) ?_
    refine dt_l1_pc E hu (j := sv) (by omega) dX1_piece_35 ?_
    refine dt_tp (show pc sv = nI pv from hpq) ?_
    refine dt_l1_sz E hu (j := pv) (by omega) dX1_piece_36 ?_
    refine lv_iadd hx hb dX1_piece_37 ?_
    exact dt_ri E hu dX1_piece_38
  · refine lv_iconst (v := (-1)) hx hb dX1_piece_8 (by decide) ?_
    refine lv_goto (tgt := 38) hx hb dX1_piece_9 (by decide) ?_
    rw [show dm_piece (hd, pc, rt, par, st, sz, mr, nb, made, gg) x = -1 from dm_piece_no (by rw [dt_b_t.mp c1]; decide)]
    exact dt_ri E hu dX1_piece_38

set_option maxHeartbeats 4000000 in
set_option maxRecDepth 100000 in
theorem m1_rights (l : Launch) (D : va_G) (d dz : ClassId) (h0 : Nat) (a : Nat → Nat) (z : Nat) (made : Int32) (hd pc rt par st sz mr nb gg : dt_F) (x : Int32) (hW : dt_W1 (hd, pc, rt, par, st, sz, mr, nb, made, gg)) : dt_Ci l yX1_rights cX1_rights 2 (some .int) (dt_rm 1 21) [(d, .int), (dz, .boolean)] [.ref h0, .int x] (dt_w1 d dz h0 a (hd, pc, rt, par, st, sz, mr, nb, made, gg)) (dt_w1 d dz h0 a (hd, pc, rt, par, st, sz, mr, nb, made, gg)) (dm_rights (hd, pc, rt, par, st, sz, mr, nb, made, gg) x) D z := by
  refine dt_Ci.ofW (own := RX1) (by decide) rfl (Nat.le_of_ble_eq_true rfl) ?_
  intro p e s m below meth c A ls E hu hl
  have hx := E.1
  have hb := E.2.1
  have hl : lv_has ls 2 [(0, .ref h0), (1, .int x)] := hl
  have hW : dt_Wf1 pc par := hW
  refine lv_aload_n hx hb dX1_rights_0 rfl (lv_at hl 0 rfl) ?_
  refine lv_iload_n hx hb dX1_rights_1 rfl (lv_at hl 1 rfl) ?_
  refine dt_k1_missing E hu  ⟨by decide, by decide⟩ hl.1 (Nat.le_of_ble_eq_true rfl) ⟨Nat.zero_le _, Nat.zero_le _⟩ dX1_rights_2 (fun H locs hu => ?_)
  refine lv_if_eq (tgt := 12) hx hb dX1_rights_5 (by decide) (fun c1 => ?_) (fun c1 => ?_)
  · have hh := dt_b_f.mp c1
    obtain ⟨sv, hs, rfl, hg⟩ := dt_ms_iff.mp hh
    obtain ⟨pv, hp, hpq⟩ := (hW sv hs).1
    rw [show dm_rights (hd, pc, rt, par, st, sz, mr, nb, made, gg) (nI sv) = _ from dm_rights_yes hh hs]
    refine lv_aload_n hx hb dX1_rights_12 rfl (lv_at hl 0 rfl) ?_
    refine dt_g1_rt E hu dX1_rights_13 ?_
    refine lv_iload_n hx hb dX1_rights_16 rfl (lv_at hl 1 rfl) ?_
    refine dt_l1_rt E hu (j := sv) (by omega) dX1_rights_17 ?_
    exact dt_ri E hu dX1_rights_18
  · refine lv_iconst (v := (-1)) hx hb dX1_rights_8 (by decide) ?_
    refine lv_goto (tgt := 18) hx hb dX1_rights_9 (by decide) ?_
    rw [show dm_rights (hd, pc, rt, par, st, sz, mr, nb, made, gg) x = -1 from dm_rights_no (by rw [dt_b_t.mp c1]; decide)]
    exact dt_ri E hu dX1_rights_18

set_option maxHeartbeats 4000000 in
set_option maxRecDepth 100000 in
theorem m1_room (l : Launch) (D : va_G) (d dz : ClassId) (h0 : Nat) (a : Nat → Nat) (z : Nat) (made : Int32) (hd pc rt par st sz mr nb gg : dt_F) (x : Int32) (hW : dt_W1 (hd, pc, rt, par, st, sz, mr, nb, made, gg)) : dt_Ci l yX1_room cX1_room 2 (some .int) (dt_rm 1 21) [(d, .int), (dz, .boolean)] [.ref h0, .int x] (dt_w1 d dz h0 a (hd, pc, rt, par, st, sz, mr, nb, made, gg)) (dt_w1 d dz h0 a (hd, pc, rt, par, st, sz, mr, nb, made, gg)) (dm_room (hd, pc, rt, par, st, sz, mr, nb, made, gg) x) D z := by
  refine dt_Ci.ofW (own := RX1) (by decide) rfl (Nat.le_of_ble_eq_true rfl) ?_
  intro p e s m below meth c A ls E hu hl
  have hx := E.1
  have hb := E.2.1
  have hl : lv_has ls 2 [(0, .ref h0), (1, .int x)] := hl
  have hW : dt_Wf1 pc par := hW
  refine lv_aload_n hx hb dX1_room_0 rfl (lv_at hl 0 rfl) ?_
  refine lv_iload_n hx hb dX1_room_1 rfl (lv_at hl 1 rfl) ?_
  refine dt_k1_missing E hu  ⟨by decide, by decide⟩ hl.1 (Nat.le_of_ble_eq_true rfl) ⟨Nat.zero_le _, Nat.zero_le _⟩ dX1_room_2 (fun H locs hu => ?_)
  refine lv_if_eq (tgt := 12) hx hb dX1_room_5 (by decide) (fun c1 => ?_) (fun c1 => ?_)
  · have hh := dt_b_f.mp c1
    obtain ⟨sv, hs, rfl, hg⟩ := dt_ms_iff.mp hh
    obtain ⟨pv, hp, hpq⟩ := (hW sv hs).1
    rw [show dm_room (hd, pc, rt, par, st, sz, mr, nb, made, gg) (nI sv) = _ from dm_room_yes hh hs hp hpq]
    refine lv_aload_n hx hb dX1_room_12 rfl (lv_at hl 0 rfl) ?_
    refine dt_g1_sz E hu dX1_room_13 ?_
    refine lv_aload_n hx hb dX1_room_16 rfl (lv_at hl 0 rfl) ?_
    refine dt_g1_pc E hu dX1_room_17 ?_
    refine lv_iload_n hx hb dX1_room_20 rfl (lv_at hl 1 rfl) ?_
    refine dt_l1_pc E hu (j := sv) (by omega) dX1_room_21 ?_
    refine dt_tp (show pc sv = nI pv from hpq) ?_
    refine dt_l1_sz E hu (j := pv) (by omega) dX1_room_22 ?_
    refine lv_aload_n hx hb dX1_room_23 rfl (lv_at hl 0 rfl) ?_
    refine dt_g1_mr E hu dX1_room_24 ?_
    refine lv_aload_n hx hb dX1_room_27 rfl (lv_at hl 0 rfl) ?_
    refine dt_g1_pc E hu dX1_room_28 ?_
    refine lv_iload_n hx hb dX1_room_31 rfl (lv_at hl 1 rfl) ?_
    refine dt_l1_pc E hu (j := sv) (by omega) dX1_room_32 ?_
    refine dt_tp (show pc sv = nI pv from hpq) ?_
    refine dt_l1_mr E hu (j := pv) (by omega) dX1_room_33 ?_
    refine lv_isub hx hb dX1_room_34 ?_
    exact dt_ri E hu dX1_room_35
  · refine lv_iconst (v := (-1)) hx hb dX1_room_8 (by decide) ?_
    refine lv_goto (tgt := 35) hx hb dX1_room_9 (by decide) ?_
    rw [show dm_room (hd, pc, rt, par, st, sz, mr, nb, made, gg) x = -1 from dm_room_no (by rw [dt_b_t.mp c1]; decide)]
    exact dt_ri E hu dX1_room_35

set_option maxHeartbeats 4000000 in
set_option maxRecDepth 100000 in
theorem m1_keys (l : Launch) (D : va_G) (d dz : ClassId) (h0 : Nat) (a : Nat → Nat) (z : Nat) (made : Int32) (hd pc rt par st sz mr nb gg : dt_F)   : dt_Ci l yX1_keys cX1_keys 3 (some .int) (dt_rm 0 0) [(d, .int), (dz, .boolean)] [.ref h0] (dt_w1 d dz h0 a (hd, pc, rt, par, st, sz, mr, nb, made, gg)) (dt_w1 d dz h0 a (hd, pc, rt, par, st, sz, mr, nb, made, gg)) (dm_keys (hd, pc, rt, par, st, sz, mr, nb, made, gg)) D z := by
  refine dt_Ci.ofW (own := RX1) (by decide) rfl (Nat.le_of_ble_eq_true rfl) ?_
  intro p e s m below meth c A ls E hu hl
  have hx := E.1
  have hb := E.2.1
  have hl : lv_has ls 3 [(0, .ref h0)] := hl
  refine lv_iconst (v := 0) hx hb dX1_keys_0 (by decide) ?_
  refine lv_istore_n (lv' := [(1, .int 0), (0, .ref h0)]) hx hb dX1_keys_1 rfl hl (by decide) rfl (fun ls hl => ?_)
  refine lv_iconst (v := nI 0) hx hb dX1_keys_2 (by decide) ?_
  refine lv_istore_n (lv' := [(2, .int (nI 0)), (1, .int 0), (0, .ref h0)]) hx hb dX1_keys_3 rfl hl (by decide) rfl (fun ls hl => ?_)
  have lp : ∀ (dd : Nat) (k : Nat) (cv : Int32), k + dd = 16 → dt_ky hd dd k cv = dt_ky hd 16 0 0 → ∀ (ls : Array Slot), lv_has ls 3 [(0, .ref h0), (1, .int cv), (2, .int (nI k))] → W p l e (dt_rm 0 0) s m ([.ref h0] : List Value).toArray below meth c s.heap [] 0 0 (MQ below (dt_QI [(d, .int), (dz, .boolean)] (dt_w1 d dz h0 a (hd, pc, rt, par, st, sz, mr, nb, made, gg)) (dm_keys (hd, pc, rt, par, st, sz, mr, nb, made, gg)) D A) ([.ref h0] : List Value).toArray s 0 0 A) (F0 m 4 ls []) := by
    intro dd
    induction dd with
    | zero =>
      intro k cv hk hf ls hl
      refine lv_iload_n hx hb dX1_keys_4 rfl (lv_at hl 2 rfl) ?_
      refine lv_bipush (v := nI 16) hx hb dX1_keys_5 (by decide) ?_
      refine lv_icmp_ge (tgt := 28) hx hb dX1_keys_7 (by decide) (fun c1 => ?_) (fun c1 => absurd (nI_le (by omega) (by omega)) c1)
      rw [show dm_keys (hd, pc, rt, par, st, sz, mr, nb, made, gg) = _ from hf.symm]
      refine lv_iload_n hx hb dX1_keys_28 rfl (lv_at hl 1 rfl) ?_
      exact dt_ri E hu dX1_keys_29
    | succ dd ih =>
      intro k cv hk hf ls hl
      refine lv_iload_n hx hb dX1_keys_4 rfl (lv_at hl 2 rfl) ?_
      refine lv_bipush (v := nI 16) hx hb dX1_keys_5 (by decide) ?_
      refine lv_icmp_ge (tgt := 28) hx hb dX1_keys_7 (by decide) (fun c1 => absurd c1 (nI_ge (by omega) (by omega))) (fun c1 => ?_)
      refine lv_aload_n hx hb dX1_keys_10 rfl (lv_at hl 0 rfl) ?_
      refine dt_g1_hd E hu dX1_keys_11 ?_
      refine lv_iload_n hx hb dX1_keys_14 rfl (lv_at hl 2 rfl) ?_
      refine dt_l1_hd E hu (j := k) (by omega) dX1_keys_15 ?_
      refine lv_if_eq (tgt := 22) hx hb dX1_keys_16 (by decide) (fun c2 => ?_) (fun c2 => ?_)
      · refine lv_iinc (v := nI (k + 1)) (lv' := [(2, .int (nI (k + 1))), (0, .ref h0), (1, .int cv)]) hx hb dX1_keys_22 hl (k := 2) rfl (dt_inc _) (by decide) rfl (fun ls hl => ?_)
        refine lv_goto (tgt := 4) hx hb dX1_keys_25 (by decide) ?_
        exact ih (k + 1) cv (by omega) (by rw [← hf]; show _ = dt_ky hd dd (k + 1) (if hd k = 0 then cv else cv + 1); rw [if_pos c2]) ls (lv_sub hl [1, 2, 0] rfl)
      · refine lv_iinc (v := cv + 1) (lv' := [(1, .int (cv + 1)), (0, .ref h0), (2, .int (nI k))]) hx hb dX1_keys_19 hl (k := 1) rfl (dt_one _) (by decide) rfl (fun ls hl => ?_)
        refine lv_iinc (v := nI (k + 1)) (lv' := [(2, .int (nI (k + 1))), (1, .int (cv + 1)), (0, .ref h0)]) hx hb dX1_keys_22 hl (k := 2) rfl (dt_inc _) (by decide) rfl (fun ls hl => ?_)
        refine lv_goto (tgt := 4) hx hb dX1_keys_25 (by decide) ?_
        exact ih (k + 1) (cv + 1) (by omega) (by rw [← hf]; show _ = dt_ky hd dd (k + 1) (if hd k = 0 then cv else cv + 1); rw [if_neg c2]) ls (lv_sub hl [2, 1, 0] rfl)
  exact lp 16 0 0 (by omega) rfl ls (lv_sub hl [2, 1, 0] rfl)

set_option maxHeartbeats 4000000 in
set_option maxRecDepth 100000 in
theorem m1_descends (l : Launch) (D : va_G) (d dz : ClassId) (h0 : Nat) (a : Nat → Nat) (z : Nat) (made : Int32) (hd pc rt par st sz mr nb gg : dt_F) (x y : Int32) (hW : dt_W1 (hd, pc, rt, par, st, sz, mr, nb, made, gg)) : dt_Ci l yX1_descends cX1_descends 3 (some .int) (dt_rm 1 24) [(d, .int), (dz, .boolean)] [.ref h0, .int x, .int y] (dt_w1 d dz h0 a (hd, pc, rt, par, st, sz, mr, nb, made, gg)) (dt_w1 d dz h0 a (hd, pc, rt, par, st, sz, mr, nb, made, gg)) (dm_descends (hd, pc, rt, par, st, sz, mr, nb, made, gg) x y) D z := by
  refine dt_Ci.ofW (own := RX1) (by decide) rfl (Nat.le_of_ble_eq_true rfl) ?_
  intro p e s m below meth c A ls E hu hl
  have hx := E.1
  have hb := E.2.1
  have hl : lv_has ls 3 [(0, .ref h0), (1, .int x), (2, .int y)] := hl
  have hW : dt_Wf1 pc par := hW
  refine lv_aload_n hx hb dX1_descends_0 rfl (lv_at hl 0 rfl) ?_
  refine lv_iload_n hx hb dX1_descends_1 rfl (lv_at hl 1 rfl) ?_
  refine dt_k1_missing E hu  ⟨by decide, by decide⟩ hl.1 (Nat.le_of_ble_eq_true rfl) ⟨Nat.zero_le _, Nat.zero_le _⟩ dX1_descends_2 (fun H locs hu => ?_)
  refine lv_if_ne (tgt := 16) hx hb dX1_descends_5 (by decide) (fun c1 => ?_) (fun c1 => ?_)
  · refine lv_iconst (v := (-1)) hx hb dX1_descends_16 (by decide) ?_
    rw [show dm_descends (hd, pc, rt, par, st, sz, mr, nb, made, gg) x y = -1 from dm_descends_no (fun q => by rw [dt_b_t.mp c1] at q; cases q.1)]
    exact dt_ri E hu dX1_descends_17
  · have hh := dt_b_f.mp c1
    refine lv_aload_n hx hb dX1_descends_8 rfl (lv_at hl 0 rfl) ?_
    refine lv_iload_n hx hb dX1_descends_9 rfl (lv_at hl 2 rfl) ?_
    refine dt_k1_missing E hu  ⟨by decide, by decide⟩ hl.1 (Nat.le_of_ble_eq_true rfl) ⟨Nat.zero_le _, Nat.zero_le _⟩ dX1_descends_10 (fun H locs hu => ?_)
    refine lv_if_eq (tgt := 18) hx hb dX1_descends_13 (by decide) (fun c2 => ?_) (fun c2 => ?_)
    · have hf := dt_b_f.mp c2
      obtain ⟨tv, ht, rfl, hgt⟩ := dt_ms_iff.mp hf
      refine lv_aload_n hx hb dX1_descends_18 rfl (lv_at hl 0 rfl) ?_
      refine lv_iload_n hx hb dX1_descends_19 rfl (lv_at hl 1 rfl) ?_
      refine lv_iload_n hx hb dX1_descends_20 rfl (lv_at hl 2 rfl) ?_
      refine dt_k1_below E hu ht (fun s hs => (hW s hs).2) ⟨by decide, by decide⟩ hl.1 (Nat.le_of_ble_eq_true rfl) ⟨Nat.zero_le _, Nat.zero_le _⟩ dX1_descends_21 (fun H locs hu => ?_)
      refine lv_if_eq (tgt := 31) hx hb dX1_descends_24 (by decide) (fun c3 => ?_) (fun c3 => ?_)
      · refine lv_iconst (v := 0) hx hb dX1_descends_31 (by decide) ?_
        rw [show dm_descends (hd, pc, rt, par, st, sz, mr, nb, made, gg) x (nI tv) = 0 from (dm_descends_yes hh hf ht).trans (c3)]
        exact dt_ri E hu dX1_descends_32
      · refine lv_iconst (v := 1) hx hb dX1_descends_27 (by decide) ?_
        refine lv_goto (tgt := 32) hx hb dX1_descends_28 (by decide) ?_
        rw [show dm_descends (hd, pc, rt, par, st, sz, mr, nb, made, gg) x (nI tv) = 1 from (dm_descends_yes hh hf ht).trans (by rw [dt_b_t.mp c3]; rfl)]
        exact dt_ri E hu dX1_descends_32
    · refine lv_iconst (v := (-1)) hx hb dX1_descends_16 (by decide) ?_
      rw [show dm_descends (hd, pc, rt, par, st, sz, mr, nb, made, gg) x y = -1 from dm_descends_no (fun q => by rw [dt_b_t.mp c2] at q; cases q.2)]
      exact dt_ri E hu dX1_descends_17

set_option maxHeartbeats 4000000 in
set_option maxRecDepth 100000 in
theorem m1_descendants (l : Launch) (D : va_G) (d dz : ClassId) (h0 : Nat) (a : Nat → Nat) (z : Nat) (made : Int32) (hd pc rt par st sz mr nb gg : dt_F) (x : Int32) (hW : dt_W1 (hd, pc, rt, par, st, sz, mr, nb, made, gg)) : dt_Ci l yX1_descendants cX1_descendants 4 (some .int) (dt_rm 1 24) [(d, .int), (dz, .boolean)] [.ref h0, .int x] (dt_w1 d dz h0 a (hd, pc, rt, par, st, sz, mr, nb, made, gg)) (dt_w1 d dz h0 a (hd, pc, rt, par, st, sz, mr, nb, made, gg)) (dm_descendants (hd, pc, rt, par, st, sz, mr, nb, made, gg) x) D z := by
  refine dt_Ci.ofW (own := RX1) (by decide) rfl (Nat.le_of_ble_eq_true rfl) ?_
  intro p e s m below meth c A ls E hu hl
  have hx := E.1
  have hb := E.2.1
  have hl : lv_has ls 4 [(0, .ref h0), (1, .int x)] := hl
  have hW : dt_Wf1 pc par := hW
  refine lv_aload_n hx hb dX1_descendants_0 rfl (lv_at hl 0 rfl) ?_
  refine lv_iload_n hx hb dX1_descendants_1 rfl (lv_at hl 1 rfl) ?_
  refine dt_k1_missing E hu  ⟨by decide, by decide⟩ hl.1 (Nat.le_of_ble_eq_true rfl) ⟨Nat.zero_le _, Nat.zero_le _⟩ dX1_descendants_2 (fun H locs hu => ?_)
  refine lv_if_eq (tgt := 10) hx hb dX1_descendants_5 (by decide) (fun c1 => ?_) (fun c1 => ?_)
  · have hh := dt_b_f.mp c1
    rw [show dm_descendants (hd, pc, rt, par, st, sz, mr, nb, made, gg) x = _ from dm_descendants_yes hh]
    refine lv_iconst (v := 0) hx hb dX1_descendants_10 (by decide) ?_
    refine lv_istore_n (lv' := [(2, .int 0), (0, .ref h0), (1, .int x)]) hx hb dX1_descendants_11 rfl hl (by decide) rfl (fun ls hl => ?_)
    refine lv_iconst (v := nI 0) hx hb dX1_descendants_12 (by decide) ?_
    refine lv_istore_n (lv' := [(3, .int (nI 0)), (2, .int 0), (0, .ref h0), (1, .int x)]) hx hb dX1_descendants_13 rfl hl (by decide) rfl (fun ls hl => ?_)
    have lp : ∀ (dd k : Nat) (cv : Int32) (H : Heap) (locs : List Loc), k + dd = 16 → dt_dc hd par x dd k cv = dt_dc hd par x 16 0 0 → dt_hq D A s (dt_w1 d dz h0 a (hd, pc, rt, par, st, sz, mr, nb, made, gg)) H locs → ∀ (ls : Array Slot), lv_has ls 4 [(0, .ref h0), (1, .int x), (2, .int cv), (3, .int (nI k))] → W p l e (dt_rm 1 24) s m ([.ref h0, .int x] : List Value).toArray below meth c H locs 0 0 (MQ below (dt_QI [(d, .int), (dz, .boolean)] (dt_w1 d dz h0 a (hd, pc, rt, par, st, sz, mr, nb, made, gg)) (dt_dc hd par x 16 0 0) D A) ([.ref h0, .int x] : List Value).toArray s 0 0 A) (F0 m 14 ls []) := by
      intro dd
      induction dd with
      | zero =>
        intro k cv H locs hk hf hu ls hl
        refine lv_iload_n hx hb dX1_descendants_14 rfl (lv_at hl 3 rfl) ?_
        refine lv_bipush (v := nI 16) hx hb dX1_descendants_15 (by decide) ?_
        refine lv_icmp_ge (tgt := 47) hx hb dX1_descendants_17 (by decide) (fun c2 => ?_) (fun c2 => absurd (nI_le (by omega) (by omega)) c2)
        rw [← hf]
        refine lv_iload_n hx hb dX1_descendants_47 rfl (lv_at hl 2 rfl) ?_
        exact dt_ri E hu dX1_descendants_48
      | succ dd ih =>
        intro k cv H locs hk hf hu ls hl
        refine lv_iload_n hx hb dX1_descendants_14 rfl (lv_at hl 3 rfl) ?_
        refine lv_bipush (v := nI 16) hx hb dX1_descendants_15 (by decide) ?_
        refine lv_icmp_ge (tgt := 47) hx hb dX1_descendants_17 (by decide) (fun c2 => absurd c2 (nI_ge (by omega) (by omega))) (fun c2 => ?_)
        refine lv_aload_n hx hb dX1_descendants_20 rfl (lv_at hl 0 rfl) ?_
        refine dt_g1_hd E hu dX1_descendants_21 ?_
        refine lv_iload_n hx hb dX1_descendants_24 rfl (lv_at hl 3 rfl) ?_
        refine dt_l1_hd E hu (j := k) (by omega) dX1_descendants_25 ?_
        refine lv_if_eq (tgt := 41) hx hb dX1_descendants_26 (by decide) (fun c3 => ?_) (fun c3 => ?_)
        · refine lv_iinc (v := nI (k + 1)) (lv' := [(3, .int (nI (k + 1))), (0, .ref h0), (1, .int x), (2, .int cv)]) hx hb dX1_descendants_41 hl (k := 3) rfl (dt_inc _) (by decide) rfl (fun ls hl => ?_)
          refine lv_goto (tgt := 14) hx hb dX1_descendants_44 (by decide) ?_
          exact ih (k + 1) cv H locs (by omega) (by rw [← hf]; show _ = dt_dc hd par x dd (k + 1) (if ¬ hd k = 0 ∧ dt_bl par x 16 (par k) = true then cv + 1 else cv); rw [if_neg (fun q => q.1 c3)]) hu ls (lv_sub hl [1, 2, 3, 0] rfl)
        · refine lv_aload_n hx hb dX1_descendants_29 rfl (lv_at hl 0 rfl) ?_
          refine lv_iload_n hx hb dX1_descendants_30 rfl (lv_at hl 1 rfl) ?_
          refine lv_iload_n hx hb dX1_descendants_31 rfl (lv_at hl 3 rfl) ?_
          refine dt_k1_below E hu (by omega) (fun s hs => (hW s hs).2) ⟨by decide, by decide⟩ hl.1 (Nat.le_of_ble_eq_true rfl) ⟨Nat.zero_le _, Nat.zero_le _⟩ dX1_descendants_32 (fun H locs hu => ?_)
          refine lv_if_eq (tgt := 41) hx hb dX1_descendants_35 (by decide) (fun c4 => ?_) (fun c4 => ?_)
          · refine lv_iinc (v := nI (k + 1)) (lv' := [(3, .int (nI (k + 1))), (0, .ref h0), (1, .int x), (2, .int cv)]) hx hb dX1_descendants_41 hl (k := 3) rfl (dt_inc _) (by decide) rfl (fun ls hl => ?_)
            refine lv_goto (tgt := 14) hx hb dX1_descendants_44 (by decide) ?_
            exact ih (k + 1) cv H locs (by omega) (by rw [← hf]; show _ = dt_dc hd par x dd (k + 1) (if ¬ hd k = 0 ∧ dt_bl par x 16 (par k) = true then cv + 1 else cv); rw [if_neg (fun q => by rw [dt_b_f.mp c4] at q; cases q.2)]) hu ls (lv_sub hl [1, 2, 3, 0] rfl)
          · refine lv_iinc (v := cv + 1) (lv' := [(2, .int (cv + 1)), (0, .ref h0), (1, .int x), (3, .int (nI k))]) hx hb dX1_descendants_38 hl (k := 2) rfl (dt_one _) (by decide) rfl (fun ls hl => ?_)
            refine lv_iinc (v := nI (k + 1)) (lv' := [(3, .int (nI (k + 1))), (2, .int (cv + 1)), (0, .ref h0), (1, .int x)]) hx hb dX1_descendants_41 hl (k := 3) rfl (dt_inc _) (by decide) rfl (fun ls hl => ?_)
            refine lv_goto (tgt := 14) hx hb dX1_descendants_44 (by decide) ?_
            exact ih (k + 1) (cv + 1) H locs (by omega) (by rw [← hf]; show _ = dt_dc hd par x dd (k + 1) (if ¬ hd k = 0 ∧ dt_bl par x 16 (par k) = true then cv + 1 else cv); rw [if_pos ⟨c3, dt_b_t.mp c4⟩]) hu ls (lv_sub hl [2, 3, 1, 0] rfl)
    exact lp 16 0 0 _ _ (by omega) rfl hu ls (lv_sub hl [2, 3, 1, 0] rfl)
  · refine lv_iconst (v := (-1)) hx hb dX1_descendants_8 (by decide) ?_
    rw [show dm_descendants (hd, pc, rt, par, st, sz, mr, nb, made, gg) x = -1 from dm_descendants_no (by rw [dt_b_t.mp c1]; decide)]
    exact dt_ri E hu dX1_descendants_9

set_option maxHeartbeats 4000000 in
set_option maxRecDepth 100000 in
theorem m1_copy (l : Launch) (D : va_G) (d dz : ClassId) (h0 : Nat) (a : Nat → Nat) (z : Nat) (made : Int32) (hd pc rt par st sz mr nb gg : dt_F) (x y v : Int32) (hW : dt_W1 (hd, pc, rt, par, st, sz, mr, nb, made, gg)) : dt_Ci l yX1_copy cX1_copy 4 (some .int) (dt_rm 1 24) [(d, .int), (dz, .boolean)] [.ref h0, .int x, .int y, .int v] (dt_w1 d dz h0 a (hd, pc, rt, par, st, sz, mr, nb, made, gg)) (dt_w1 d dz h0 a (dm_copy (hd, pc, rt, par, st, sz, mr, nb, made, gg) x y v).2) ((dm_copy (hd, pc, rt, par, st, sz, mr, nb, made, gg) x y v).1) D z := by
  refine dt_Ci.ofW (own := RX1) (by decide) rfl (Nat.le_of_ble_eq_true rfl) ?_
  intro p e s m below meth c A ls E hu hl
  have hx := E.1
  have hb := E.2.1
  have hl : lv_has ls 4 [(0, .ref h0), (1, .int x), (2, .int y), (3, .int v)] := hl
  have hW : dt_Wf1 pc par := hW
  refine lv_aload_n hx hb dX1_copy_0 rfl (lv_at hl 0 rfl) ?_
  refine lv_iload_n hx hb dX1_copy_1 rfl (lv_at hl 1 rfl) ?_
  refine dt_k1_missing E hu  ⟨by decide, by decide⟩ hl.1 (Nat.le_of_ble_eq_true rfl) ⟨Nat.zero_le _, Nat.zero_le _⟩ dX1_copy_2 (fun H locs hu => ?_)
  refine lv_if_ne (tgt := 16) hx hb dX1_copy_5 (by decide) (fun c1 => ?_) (fun c1 => ?_)
  · refine lv_iconst (v := (-1)) hx hb dX1_copy_16 (by decide) ?_
    rw [show dm_copy (hd, pc, rt, par, st, sz, mr, nb, made, gg) x y v = (-1, (hd, pc, rt, par, st, sz, mr, nb, made, gg)) from dm_copy_no (fun q => by rw [dt_b_t.mp c1] at q; cases q.1)]
    exact dt_ri E hu dX1_copy_17
  · have hh := dt_b_f.mp c1
    refine lv_aload_n hx hb dX1_copy_8 rfl (lv_at hl 0 rfl) ?_
    refine lv_iload_n hx hb dX1_copy_9 rfl (lv_at hl 2 rfl) ?_
    refine dt_k1_taken E hu  ⟨by decide, by decide⟩ hl.1 (Nat.le_of_ble_eq_true rfl) ⟨Nat.zero_le _, Nat.zero_le _⟩ dX1_copy_10 (fun H locs hu => ?_)
    refine lv_if_eq (tgt := 18) hx hb dX1_copy_13 (by decide) (fun c2 => ?_) (fun c2 => ?_)
    · have hf := dt_b_f.mp c2
      obtain ⟨sv, hs, rfl, hg⟩ := dt_ms_iff.mp hh
      obtain ⟨pv, hp, hpq⟩ := (hW sv hs).1
      obtain ⟨tv, ht, rfl, hgt⟩ := dt_tk_iff.mp hf
      rw [show dm_copy (hd, pc, rt, par, st, sz, mr, nb, made, gg) (nI sv) (nI tv) v = _ from dm_copy_yes hh hf hs ht]
      refine lv_aload_n hx hb dX1_copy_18 rfl (lv_at hl 0 rfl) ?_
      refine lv_iload_n hx hb dX1_copy_19 rfl (lv_at hl 2 rfl) ?_
      refine lv_aload_n hx hb dX1_copy_20 rfl (lv_at hl 0 rfl) ?_
      refine dt_g1_pc E hu dX1_copy_21 ?_
      refine lv_iload_n hx hb dX1_copy_24 rfl (lv_at hl 1 rfl) ?_
      refine dt_l1_pc E hu (j := sv) (by omega) dX1_copy_25 ?_
      refine lv_aload_n hx hb dX1_copy_26 rfl (lv_at hl 0 rfl) ?_
      refine dt_g1_rt E hu dX1_copy_27 ?_
      refine lv_iload_n hx hb dX1_copy_30 rfl (lv_at hl 1 rfl) ?_
      refine dt_l1_rt E hu (j := sv) (by omega) dX1_copy_31 ?_
      refine lv_iload_n hx hb dX1_copy_32 rfl (lv_at hl 3 rfl) ?_
      refine lv_iand hx hb dX1_copy_33 ?_
      refine lv_iload_n hx hb dX1_copy_34 rfl (lv_at hl 1 rfl) ?_
      refine dt_k1_hold E hu ht ⟨by decide, by decide⟩ hl.1 (Nat.le_of_ble_eq_true rfl) ⟨Nat.zero_le _, Nat.zero_le _⟩ dX1_copy_35 (fun H locs hu => ?_)
      refine lv_aload_n hx hb dX1_copy_38 rfl (lv_at hl 0 rfl) ?_
      refine dt_g1_rt E hu dX1_copy_39 ?_
      refine lv_iload_n hx hb dX1_copy_42 rfl (lv_at hl 2 rfl) ?_
      refine dt_l1_rt E hu (j := tv) (by omega) dX1_copy_43 ?_
      exact dt_ri E hu dX1_copy_44
    · refine lv_iconst (v := (-1)) hx hb dX1_copy_16 (by decide) ?_
      rw [show dm_copy (hd, pc, rt, par, st, sz, mr, nb, made, gg) x y v = (-1, (hd, pc, rt, par, st, sz, mr, nb, made, gg)) from dm_copy_no (fun q => by rw [dt_b_t.mp c2] at q; cases q.2)]
      exact dt_ri E hu dX1_copy_17

set_option maxHeartbeats 4000000 in
set_option maxRecDepth 100000 in
theorem m1_move (l : Launch) (D : va_G) (d dz : ClassId) (h0 : Nat) (a : Nat → Nat) (z : Nat) (made : Int32) (hd pc rt par st sz mr nb gg : dt_F) (x y : Int32) (hW : dt_W1 (hd, pc, rt, par, st, sz, mr, nb, made, gg)) : dt_Ci l yX1_move cX1_move 3 (some .int) (dt_rm 1 24) [(d, .int), (dz, .boolean)] [.ref h0, .int x, .int y] (dt_w1 d dz h0 a (hd, pc, rt, par, st, sz, mr, nb, made, gg)) (dt_w1 d dz h0 a (dm_move (hd, pc, rt, par, st, sz, mr, nb, made, gg) x y).2) ((dm_move (hd, pc, rt, par, st, sz, mr, nb, made, gg) x y).1) D z := by
  refine dt_Ci.ofW (own := RX1) (by decide) rfl (Nat.le_of_ble_eq_true rfl) ?_
  intro p e s m below meth c A ls E hu hl
  have hx := E.1
  have hb := E.2.1
  have hl : lv_has ls 3 [(0, .ref h0), (1, .int x), (2, .int y)] := hl
  have hW : dt_Wf1 pc par := hW
  refine lv_aload_n hx hb dX1_move_0 rfl (lv_at hl 0 rfl) ?_
  refine lv_iload_n hx hb dX1_move_1 rfl (lv_at hl 1 rfl) ?_
  refine dt_k1_missing E hu  ⟨by decide, by decide⟩ hl.1 (Nat.le_of_ble_eq_true rfl) ⟨Nat.zero_le _, Nat.zero_le _⟩ dX1_move_2 (fun H locs hu => ?_)
  refine lv_if_ne (tgt := 16) hx hb dX1_move_5 (by decide) (fun c1 => ?_) (fun c1 => ?_)
  · refine lv_iconst (v := (-1)) hx hb dX1_move_16 (by decide) ?_
    rw [show dm_move (hd, pc, rt, par, st, sz, mr, nb, made, gg) x y = (-1, (hd, pc, rt, par, st, sz, mr, nb, made, gg)) from dm_move_no (fun q => by rw [dt_b_t.mp c1] at q; cases q.1)]
    exact dt_ri E hu dX1_move_17
  · have hh := dt_b_f.mp c1
    refine lv_aload_n hx hb dX1_move_8 rfl (lv_at hl 0 rfl) ?_
    refine lv_iload_n hx hb dX1_move_9 rfl (lv_at hl 2 rfl) ?_
    refine dt_k1_taken E hu  ⟨by decide, by decide⟩ hl.1 (Nat.le_of_ble_eq_true rfl) ⟨Nat.zero_le _, Nat.zero_le _⟩ dX1_move_10 (fun H locs hu => ?_)
    refine lv_if_eq (tgt := 18) hx hb dX1_move_13 (by decide) (fun c2 => ?_) (fun c2 => ?_)
    · have hf := dt_b_f.mp c2
      obtain ⟨sv, hs, rfl, hg⟩ := dt_ms_iff.mp hh
      obtain ⟨pv, hp, hpq⟩ := (hW sv hs).1
      obtain ⟨tv, ht, rfl, hgt⟩ := dt_tk_iff.mp hf
      rw [show dm_move (hd, pc, rt, par, st, sz, mr, nb, made, gg) (nI sv) (nI tv) = _ from dm_move_yes hh hf hs ht]
      refine lv_aload_n hx hb dX1_move_18 rfl (lv_at hl 0 rfl) ?_
      refine lv_iload_n hx hb dX1_move_19 rfl (lv_at hl 2 rfl) ?_
      refine lv_aload_n hx hb dX1_move_20 rfl (lv_at hl 0 rfl) ?_
      refine dt_g1_pc E hu dX1_move_21 ?_
      refine lv_iload_n hx hb dX1_move_24 rfl (lv_at hl 1 rfl) ?_
      refine dt_l1_pc E hu (j := sv) (by omega) dX1_move_25 ?_
      refine lv_aload_n hx hb dX1_move_26 rfl (lv_at hl 0 rfl) ?_
      refine dt_g1_rt E hu dX1_move_27 ?_
      refine lv_iload_n hx hb dX1_move_30 rfl (lv_at hl 1 rfl) ?_
      refine dt_l1_rt E hu (j := sv) (by omega) dX1_move_31 ?_
      refine lv_aload_n hx hb dX1_move_32 rfl (lv_at hl 0 rfl) ?_
      refine dt_g1_par E hu dX1_move_33 ?_
      refine lv_iload_n hx hb dX1_move_36 rfl (lv_at hl 1 rfl) ?_
      refine dt_l1_par E hu (j := sv) (by omega) dX1_move_37 ?_
      refine dt_k1_hold E hu ht ⟨by decide, by decide⟩ hl.1 (Nat.le_of_ble_eq_true rfl) ⟨Nat.zero_le _, Nat.zero_le _⟩ dX1_move_38 (fun H locs hu => ?_)
      refine lv_aload_n hx hb dX1_move_41 rfl (lv_at hl 0 rfl) ?_
      refine dt_g1_hd E hu dX1_move_42 ?_
      refine lv_iload_n hx hb dX1_move_45 rfl (lv_at hl 1 rfl) ?_
      refine lv_iconst (v := 0) hx hb dX1_move_46 (by decide) ?_
      refine dt_s1_hd E hu (j := sv) (x := 0) rfl (by omega) dX1_move_47 (fun H locs hu => ?_)
      refine lv_aload_n hx hb dX1_move_48 rfl (lv_at hl 0 rfl) ?_
      refine lv_iload_n hx hb dX1_move_49 rfl (lv_at hl 1 rfl) ?_
      refine lv_iload_n hx hb dX1_move_50 rfl (lv_at hl 2 rfl) ?_
      refine dt_k1_hand E hu  ⟨by decide, by decide⟩ hl.1 (Nat.le_of_ble_eq_true rfl) ⟨Nat.zero_le _, Nat.zero_le _⟩ dX1_move_51 (fun H locs hu => ?_)
      refine lv_pop hx hb dX1_move_54 rfl ?_
      refine lv_iconst (v := 0) hx hb dX1_move_55 (by decide) ?_
      exact dt_ri E hu dX1_move_56
    · refine lv_iconst (v := (-1)) hx hb dX1_move_16 (by decide) ?_
      rw [show dm_move (hd, pc, rt, par, st, sz, mr, nb, made, gg) x y = (-1, (hd, pc, rt, par, st, sz, mr, nb, made, gg)) from dm_move_no (fun q => by rw [dt_b_t.mp c2] at q; cases q.2)]
      exact dt_ri E hu dX1_move_17

set_option maxHeartbeats 4000000 in
set_option maxRecDepth 100000 in
theorem m1_delete (l : Launch) (D : va_G) (d dz : ClassId) (h0 : Nat) (a : Nat → Nat) (z : Nat) (made : Int32) (hd pc rt par st sz mr nb gg : dt_F) (x : Int32) (hW : dt_W1 (hd, pc, rt, par, st, sz, mr, nb, made, gg)) : dt_Ci l yX1_delete cX1_delete 3 (some .int) (dt_rm 2 45) [(d, .int), (dz, .boolean)] [.ref h0, .int x] (dt_w1 d dz h0 a (hd, pc, rt, par, st, sz, mr, nb, made, gg)) (dt_w1 d dz h0 a (dm_delete (hd, pc, rt, par, st, sz, mr, nb, made, gg) x).2) ((dm_delete (hd, pc, rt, par, st, sz, mr, nb, made, gg) x).1) D z := by
  refine dt_Ci.ofW (own := RX1) (by decide) rfl (Nat.le_of_ble_eq_true rfl) ?_
  intro p e s m below meth c A ls E hu hl
  have hx := E.1
  have hb := E.2.1
  have hl : lv_has ls 3 [(0, .ref h0), (1, .int x)] := hl
  have hW : dt_Wf1 pc par := hW
  refine lv_aload_n hx hb dX1_delete_0 rfl (lv_at hl 0 rfl) ?_
  refine lv_iload_n hx hb dX1_delete_1 rfl (lv_at hl 1 rfl) ?_
  refine dt_k1_missing E hu  ⟨by decide, by decide⟩ hl.1 (Nat.le_of_ble_eq_true rfl) ⟨Nat.zero_le _, Nat.zero_le _⟩ dX1_delete_2 (fun H locs hu => ?_)
  refine lv_if_eq (tgt := 10) hx hb dX1_delete_5 (by decide) (fun c1 => ?_) (fun c1 => ?_)
  · have hh := dt_b_f.mp c1
    obtain ⟨sv, hs, rfl, hg⟩ := dt_ms_iff.mp hh
    obtain ⟨pv, hp, hpq⟩ := (hW sv hs).1
    rw [show dm_delete (hd, pc, rt, par, st, sz, mr, nb, made, gg) (nI sv) = _ from dm_delete_yes hh hs]
    refine lv_aload_n hx hb dX1_delete_10 rfl (lv_at hl 0 rfl) ?_
    refine dt_g1_hd E hu dX1_delete_11 ?_
    refine lv_iload_n hx hb dX1_delete_14 rfl (lv_at hl 1 rfl) ?_
    refine lv_iconst (v := 0) hx hb dX1_delete_15 (by decide) ?_
    refine dt_s1_hd E hu (j := sv) (x := 0) rfl (by omega) dX1_delete_16 (fun H locs hu => ?_)
    refine lv_aload_n hx hb dX1_delete_17 rfl (lv_at hl 0 rfl) ?_
    refine lv_iload_n hx hb dX1_delete_18 rfl (lv_at hl 1 rfl) ?_
    refine lv_aload_n hx hb dX1_delete_19 rfl (lv_at hl 0 rfl) ?_
    refine dt_g1_par E hu dX1_delete_20 ?_
    refine lv_iload_n hx hb dX1_delete_23 rfl (lv_at hl 1 rfl) ?_
    refine dt_l1_par E hu (j := sv) (by omega) dX1_delete_24 ?_
    refine dt_k1_hand E hu  ⟨by decide, by decide⟩ hl.1 (Nat.le_of_ble_eq_true rfl) ⟨Nat.zero_le _, Nat.zero_le _⟩ dX1_delete_25 (fun H locs hu => ?_)
    refine lv_istore_n (lv' := [(2, .int ((dt_hn (upd hd sv 0) (nI sv) (par sv) 16 0 0 par).1)), (0, .ref h0), (1, .int (nI sv))]) hx hb dX1_delete_28 rfl hl (by decide) rfl (fun ls hl => ?_)
    refine lv_aload_n hx hb dX1_delete_29 rfl (lv_at hl 1 rfl) ?_
    refine dt_k1_settle E hu  ⟨by decide, by decide⟩ hl.1 (Nat.le_of_ble_eq_true rfl) ⟨Nat.zero_le _, Nat.zero_le _⟩ dX1_delete_30 (fun H locs hu => ?_)
    refine lv_iload_n hx hb dX1_delete_33 rfl (lv_at hl 0 rfl) ?_
    exact dt_ri E hu dX1_delete_34
  · refine lv_iconst (v := (-1)) hx hb dX1_delete_8 (by decide) ?_
    rw [show dm_delete (hd, pc, rt, par, st, sz, mr, nb, made, gg) x = (-1, (hd, pc, rt, par, st, sz, mr, nb, made, gg)) from dm_delete_no (by rw [dt_b_t.mp c1]; decide)]
    exact dt_ri E hu dX1_delete_9

set_option maxHeartbeats 4000000 in
set_option maxRecDepth 100000 in
theorem m1_revoke (l : Launch) (D : va_G) (d dz : ClassId) (h0 : Nat) (a : Nat → Nat) (z : Nat) (made : Int32) (hd pc rt par st sz mr nb gg : dt_F) (x : Int32) (hW : dt_W1 (hd, pc, rt, par, st, sz, mr, nb, made, gg)) : dt_Ci l yX1_revoke cX1_revoke 4 (some .int) (dt_rm 2 45) [(d, .int), (dz, .boolean)] [.ref h0, .int x] (dt_w1 d dz h0 a (hd, pc, rt, par, st, sz, mr, nb, made, gg)) (dt_w1 d dz h0 a (dm_revoke (hd, pc, rt, par, st, sz, mr, nb, made, gg) x).2) ((dm_revoke (hd, pc, rt, par, st, sz, mr, nb, made, gg) x).1) D z := by
  refine dt_Ci.ofW (own := RX1) (by decide) rfl (Nat.le_of_ble_eq_true rfl) ?_
  intro p e s m below meth c A ls E hu hl
  have hx := E.1
  have hb := E.2.1
  have hl : lv_has ls 4 [(0, .ref h0), (1, .int x)] := hl
  have hW : dt_Wf1 pc par := hW
  refine lv_aload_n hx hb dX1_revoke_0 rfl (lv_at hl 0 rfl) ?_
  refine lv_iload_n hx hb dX1_revoke_1 rfl (lv_at hl 1 rfl) ?_
  refine dt_k1_missing E hu  ⟨by decide, by decide⟩ hl.1 (Nat.le_of_ble_eq_true rfl) ⟨Nat.zero_le _, Nat.zero_le _⟩ dX1_revoke_2 (fun H locs hu => ?_)
  refine lv_if_eq (tgt := 10) hx hb dX1_revoke_5 (by decide) (fun c1 => ?_) (fun c1 => ?_)
  · have hh := dt_b_f.mp c1
    rw [show dm_revoke (hd, pc, rt, par, st, sz, mr, nb, made, gg) x = _ from dm_revoke_yes hh]
    refine lv_iconst (v := nI 0) hx hb dX1_revoke_10 (by decide) ?_
    refine lv_istore_n (lv' := [(2, .int (nI 0)), (0, .ref h0), (1, .int x)]) hx hb dX1_revoke_11 rfl hl (by decide) rfl (fun ls hl => ?_)
    have lq : ∀ (dd k : Nat) (cv : Int32) (f : dt_F) (H : Heap) (locs : List Loc), k + dd = 16 → dt_gn (dt_gs hd par x 16 0 gg) dd k cv f = dt_gn (dt_gs hd par x 16 0 gg) 16 0 0 hd → dt_hq D A s (dt_w1 d dz h0 a (f, pc, rt, par, st, sz, mr, nb, made, dt_gs hd par x 16 0 gg)) H locs → ∀ (ls : Array Slot), lv_has ls 4 [(0, .ref h0), (1, .int x), (2, .int cv), (3, .int (nI k))] → W p l e (dt_rm 2 45) s m ([.ref h0, .int x] : List Value).toArray below meth c H locs 0 0 (MQ below (dt_QI [(d, .int), (dz, .boolean)] (dt_w1 d dz h0 a ((dt_gn (dt_gs hd par x 16 0 gg) 16 0 0 hd).2, pc, rt, par, st, sz, dt_se (dt_gn (dt_gs hd par x 16 0 gg) 16 0 0 hd).2 pc st sz nb 16 0 mr, nb, made, dt_gs hd par x 16 0 gg)) ((dt_gn (dt_gs hd par x 16 0 gg) 16 0 0 hd).1) D A) ([.ref h0, .int x] : List Value).toArray s 0 0 A) (F0 m 57 ls []) := by
      intro dd
      induction dd with
      | zero =>
        intro k cv f H locs hk hf hu ls hl
        refine lv_iload_n hx hb dX1_revoke_57 rfl (lv_at hl 3 rfl) ?_
        refine lv_bipush (v := nI 16) hx hb dX1_revoke_58 (by decide) ?_
        refine lv_icmp_ge (tgt := 88) hx hb dX1_revoke_60 (by decide) (fun c2 => ?_) (fun c2 => absurd (nI_le (by omega) (by omega)) c2)
        rw [← hf]
        refine lv_aload_n hx hb dX1_revoke_88 rfl (lv_at hl 0 rfl) ?_
        refine dt_k1_settle E hu  ⟨by decide, by decide⟩ hl.1 (Nat.le_of_ble_eq_true rfl) ⟨Nat.zero_le _, Nat.zero_le _⟩ dX1_revoke_89 (fun H locs hu => ?_)
        refine lv_iload_n hx hb dX1_revoke_92 rfl (lv_at hl 2 rfl) ?_
        exact dt_ri E hu dX1_revoke_93
      | succ dd ih =>
        intro k cv f H locs hk hf hu ls hl
        refine lv_iload_n hx hb dX1_revoke_57 rfl (lv_at hl 3 rfl) ?_
        refine lv_bipush (v := nI 16) hx hb dX1_revoke_58 (by decide) ?_
        refine lv_icmp_ge (tgt := 88) hx hb dX1_revoke_60 (by decide) (fun c2 => absurd c2 (nI_ge (by omega) (by omega))) (fun c2 => ?_)
        refine lv_aload_n hx hb dX1_revoke_63 rfl (lv_at hl 0 rfl) ?_
        refine dt_g1_gg E hu dX1_revoke_64 ?_
        refine lv_iload_n hx hb dX1_revoke_67 rfl (lv_at hl 3 rfl) ?_
        refine dt_l1_gg E hu (j := k) (by omega) dX1_revoke_68 ?_
        refine lv_if_eq (tgt := 82) hx hb dX1_revoke_69 (by decide) (fun c3 => ?_) (fun c3 => ?_)
        · refine lv_iinc (v := nI (k + 1)) (lv' := [(3, .int (nI (k + 1))), (0, .ref h0), (1, .int x), (2, .int cv)]) hx hb dX1_revoke_82 hl (k := 3) rfl (dt_inc _) (by decide) rfl (fun ls hl => ?_)
          refine lv_goto (tgt := 57) hx hb dX1_revoke_85 (by decide) ?_
          exact ih (k + 1) cv f H locs (by omega) (by rw [← hf]; exact (if_pos c3).symm) hu ls (lv_sub hl [1, 2, 3, 0] rfl)
        · refine lv_aload_n hx hb dX1_revoke_72 rfl (lv_at hl 0 rfl) ?_
          refine dt_g1_hd E hu dX1_revoke_73 ?_
          refine lv_iload_n hx hb dX1_revoke_76 rfl (lv_at hl 3 rfl) ?_
          refine lv_iconst (v := 0) hx hb dX1_revoke_77 (by decide) ?_
          refine dt_s1_hd E hu (j := k) (x := 0) rfl (by omega) dX1_revoke_78 (fun H locs hu => ?_)
          refine lv_iinc (v := cv + 1) (lv' := [(2, .int (cv + 1)), (0, .ref h0), (1, .int x), (3, .int (nI k))]) hx hb dX1_revoke_79 hl (k := 2) rfl (dt_one _) (by decide) rfl (fun ls hl => ?_)
          refine lv_iinc (v := nI (k + 1)) (lv' := [(3, .int (nI (k + 1))), (2, .int (cv + 1)), (0, .ref h0), (1, .int x)]) hx hb dX1_revoke_82 hl (k := 3) rfl (dt_inc _) (by decide) rfl (fun ls hl => ?_)
          refine lv_goto (tgt := 57) hx hb dX1_revoke_85 (by decide) ?_
          exact ih (k + 1) (cv + 1) (upd f k 0) H locs (by omega) (by rw [← hf]; exact (if_neg c3).symm) hu ls (lv_sub hl [2, 3, 1, 0] rfl)
    have lp : ∀ (dd k : Nat) (f : dt_F) (H : Heap) (locs : List Loc), k + dd = 16 → dt_gs hd par x dd k f = dt_gs hd par x 16 0 gg → dt_hq D A s (dt_w1 d dz h0 a (hd, pc, rt, par, st, sz, mr, nb, made, f)) H locs → ∀ (ls : Array Slot), lv_has ls 4 [(0, .ref h0), (1, .int x), (2, .int (nI k))] → W p l e (dt_rm 2 45) s m ([.ref h0, .int x] : List Value).toArray below meth c H locs 0 0 (MQ below (dt_QI [(d, .int), (dz, .boolean)] (dt_w1 d dz h0 a ((dt_gn (dt_gs hd par x 16 0 gg) 16 0 0 hd).2, pc, rt, par, st, sz, dt_se (dt_gn (dt_gs hd par x 16 0 gg) 16 0 0 hd).2 pc st sz nb 16 0 mr, nb, made, dt_gs hd par x 16 0 gg)) ((dt_gn (dt_gs hd par x 16 0 gg) 16 0 0 hd).1) D A) ([.ref h0, .int x] : List Value).toArray s 0 0 A) (F0 m 12 ls []) := by
      intro dd
      induction dd with
      | zero =>
        intro k f H locs hk hf hu ls hl
        have hf : f = dt_gs hd par x 16 0 gg := hf
        subst hf
        refine lv_iload_n hx hb dX1_revoke_12 rfl (lv_at hl 2 rfl) ?_
        refine lv_bipush (v := nI 16) hx hb dX1_revoke_13 (by decide) ?_
        refine lv_icmp_ge (tgt := 53) hx hb dX1_revoke_15 (by decide) (fun c2 => ?_) (fun c2 => absurd (nI_le (by omega) (by omega)) c2)
        refine lv_iconst (v := 0) hx hb dX1_revoke_53 (by decide) ?_
        refine lv_istore_n (lv' := [(2, .int 0), (0, .ref h0), (1, .int x)]) hx hb dX1_revoke_54 rfl hl (by decide) rfl (fun ls hl => ?_)
        refine lv_iconst (v := nI 0) hx hb dX1_revoke_55 (by decide) ?_
        refine lv_istore_n (lv' := [(3, .int (nI 0)), (2, .int 0), (0, .ref h0), (1, .int x)]) hx hb dX1_revoke_56 rfl hl (by decide) rfl (fun ls hl => ?_)
        exact lq 16 0 0 hd H locs (by omega) rfl hu ls (lv_sub hl [2, 3, 1, 0] rfl)
      | succ dd ih =>
        intro k f H locs hk hf hu ls hl
        refine lv_iload_n hx hb dX1_revoke_12 rfl (lv_at hl 2 rfl) ?_
        refine lv_bipush (v := nI 16) hx hb dX1_revoke_13 (by decide) ?_
        refine lv_icmp_ge (tgt := 53) hx hb dX1_revoke_15 (by decide) (fun c2 => absurd c2 (nI_ge (by omega) (by omega))) (fun c2 => ?_)
        refine lv_aload_n hx hb dX1_revoke_18 rfl (lv_at hl 0 rfl) ?_
        refine dt_g1_gg E hu dX1_revoke_19 ?_
        refine lv_iload_n hx hb dX1_revoke_22 rfl (lv_at hl 2 rfl) ?_
        refine lv_aload_n hx hb dX1_revoke_23 rfl (lv_at hl 0 rfl) ?_
        refine dt_g1_hd E hu dX1_revoke_24 ?_
        refine lv_iload_n hx hb dX1_revoke_27 rfl (lv_at hl 2 rfl) ?_
        refine dt_l1_hd E hu (j := k) (by omega) dX1_revoke_28 ?_
        refine lv_if_eq (tgt := 45) hx hb dX1_revoke_29 (by decide) (fun c3 => ?_) (fun c3 => ?_)
        · refine lv_iconst (v := dt_b false) hx hb dX1_revoke_45 (by decide) ?_
          refine dt_tp (show dt_b false = dt_b (!decide (hd k = 0) && dt_bl par x 16 (par k)) from (by rw [decide_eq_true c3]; rfl)) ?_
          refine dt_s1_gg E hu (j := k) (x := dt_b (!decide (hd k = 0) && dt_bl par x 16 (par k))) (dt_nar_b _) (by omega) dX1_revoke_46 (fun H locs hu => ?_)
          refine lv_iinc (v := nI (k + 1)) (lv' := [(2, .int (nI (k + 1))), (0, .ref h0), (1, .int x)]) hx hb dX1_revoke_47 hl (k := 2) rfl (dt_inc _) (by decide) rfl (fun ls hl => ?_)
          refine lv_goto (tgt := 12) hx hb dX1_revoke_50 (by decide) ?_
          exact ih (k + 1) _ H locs (by omega) hf hu ls (lv_sub hl [1, 2, 0] rfl)
        · refine lv_aload_n hx hb dX1_revoke_32 rfl (lv_at hl 0 rfl) ?_
          refine lv_iload_n hx hb dX1_revoke_33 rfl (lv_at hl 1 rfl) ?_
          refine lv_iload_n hx hb dX1_revoke_34 rfl (lv_at hl 2 rfl) ?_
          refine dt_k1_below E hu (by omega) (fun s hs => (hW s hs).2) ⟨by decide, by decide⟩ hl.1 (Nat.le_of_ble_eq_true rfl) ⟨Nat.zero_le _, Nat.zero_le _⟩ dX1_revoke_35 (fun H locs hu => ?_)
          refine lv_if_eq (tgt := 45) hx hb dX1_revoke_38 (by decide) (fun c4 => ?_) (fun c4 => ?_)
          · refine lv_iconst (v := dt_b false) hx hb dX1_revoke_45 (by decide) ?_
            refine dt_tp (show dt_b false = dt_b (!decide (hd k = 0) && dt_bl par x 16 (par k)) from (by rw [decide_eq_false c3, dt_b_f.mp c4]; rfl)) ?_
            refine dt_s1_gg E hu (j := k) (x := dt_b (!decide (hd k = 0) && dt_bl par x 16 (par k))) (dt_nar_b _) (by omega) dX1_revoke_46 (fun H locs hu => ?_)
            refine lv_iinc (v := nI (k + 1)) (lv' := [(2, .int (nI (k + 1))), (0, .ref h0), (1, .int x)]) hx hb dX1_revoke_47 hl (k := 2) rfl (dt_inc _) (by decide) rfl (fun ls hl => ?_)
            refine lv_goto (tgt := 12) hx hb dX1_revoke_50 (by decide) ?_
            exact ih (k + 1) _ H locs (by omega) hf hu ls (lv_sub hl [1, 2, 0] rfl)
          · refine lv_iconst (v := dt_b true) hx hb dX1_revoke_41 (by decide) ?_
            refine lv_goto (tgt := 46) hx hb dX1_revoke_42 (by decide) ?_
            refine dt_tp (show dt_b true = dt_b (!decide (hd k = 0) && dt_bl par x 16 (par k)) from (by rw [decide_eq_false c3, dt_b_t.mp c4]; rfl)) ?_
            refine dt_s1_gg E hu (j := k) (x := dt_b (!decide (hd k = 0) && dt_bl par x 16 (par k))) (dt_nar_b _) (by omega) dX1_revoke_46 (fun H locs hu => ?_)
            refine lv_iinc (v := nI (k + 1)) (lv' := [(2, .int (nI (k + 1))), (0, .ref h0), (1, .int x)]) hx hb dX1_revoke_47 hl (k := 2) rfl (dt_inc _) (by decide) rfl (fun ls hl => ?_)
            refine lv_goto (tgt := 12) hx hb dX1_revoke_50 (by decide) ?_
            exact ih (k + 1) _ H locs (by omega) hf hu ls (lv_sub hl [1, 2, 0] rfl)
    exact lp 16 0 gg _ _ (by omega) rfl hu ls (lv_sub hl [1, 2, 0] rfl)
  · refine lv_iconst (v := (-1)) hx hb dX1_revoke_8 (by decide) ?_
    rw [show dm_revoke (hd, pc, rt, par, st, sz, mr, nb, made, gg) x = (-1, (hd, pc, rt, par, st, sz, mr, nb, made, gg)) from dm_revoke_no (by rw [dt_b_t.mp c1]; decide)]
    exact dt_ri E hu dX1_revoke_9

set_option maxHeartbeats 4000000 in
set_option maxRecDepth 100000 in
theorem m1_split (l : Launch) (D : va_G) (d dz : ClassId) (h0 : Nat) (a : Nat → Nat) (z : Nat) (made : Int32) (hd pc rt par st sz mr nb gg : dt_F) (x y v : Int32) (hW : dt_W1 (hd, pc, rt, par, st, sz, mr, nb, made, gg)) : dt_Ci l yX1_split cX1_split 6 (some .int) (dt_rm 1 24) [(d, .int), (dz, .boolean)] [.ref h0, .int x, .int y, .int v] (dt_w1 d dz h0 a (hd, pc, rt, par, st, sz, mr, nb, made, gg)) (dt_w1 d dz h0 a (dm_split (hd, pc, rt, par, st, sz, mr, nb, made, gg) x y v).2) ((dm_split (hd, pc, rt, par, st, sz, mr, nb, made, gg) x y v).1) D z := by
  refine dt_Ci.ofW (own := RX1) (by decide) rfl (Nat.le_of_ble_eq_true rfl) ?_
  intro p e s m below meth c A ls E hu hl
  have hx := E.1
  have hb := E.2.1
  have hl : lv_has ls 6 [(0, .ref h0), (1, .int x), (2, .int y), (3, .int v)] := hl
  have hW : dt_Wf1 pc par := hW
  refine lv_aload_n hx hb dX1_split_0 rfl (lv_at hl 0 rfl) ?_
  refine lv_iload_n hx hb dX1_split_1 rfl (lv_at hl 1 rfl) ?_
  refine dt_k1_missing E hu  ⟨by decide, by decide⟩ hl.1 (Nat.le_of_ble_eq_true rfl) ⟨Nat.zero_le _, Nat.zero_le _⟩ dX1_split_2 (fun H locs hu => ?_)
  refine lv_if_ne (tgt := 16) hx hb dX1_split_5 (by decide) (fun c1 => ?_) (fun c1 => ?_)
  · refine lv_iconst (v := (-1)) hx hb dX1_split_16 (by decide) ?_
    rw [show dm_split (hd, pc, rt, par, st, sz, mr, nb, made, gg) x y v = (-1, (hd, pc, rt, par, st, sz, mr, nb, made, gg)) from dm_split_no (fun q => by rw [dt_b_t.mp c1] at q; cases q.1)]
    exact dt_ri E hu dX1_split_17
  · have hh := dt_b_f.mp c1
    refine lv_aload_n hx hb dX1_split_8 rfl (lv_at hl 0 rfl) ?_
    refine lv_iload_n hx hb dX1_split_9 rfl (lv_at hl 2 rfl) ?_
    refine dt_k1_taken E hu  ⟨by decide, by decide⟩ hl.1 (Nat.le_of_ble_eq_true rfl) ⟨Nat.zero_le _, Nat.zero_le _⟩ dX1_split_10 (fun H locs hu => ?_)
    refine lv_if_eq (tgt := 18) hx hb dX1_split_13 (by decide) (fun c2 => ?_) (fun c2 => ?_)
    · have hf := dt_b_f.mp c2
      obtain ⟨sv, hs, rfl, hg⟩ := dt_ms_iff.mp hh
      obtain ⟨pv, hp, hpq⟩ := (hW sv hs).1
      obtain ⟨tv, ht, rfl, hgt⟩ := dt_tk_iff.mp hf
      refine lv_aload_n hx hb dX1_split_18 rfl (lv_at hl 0 rfl) ?_
      refine dt_g1_pc E hu dX1_split_19 ?_
      refine lv_iload_n hx hb dX1_split_22 rfl (lv_at hl 1 rfl) ?_
      refine dt_l1_pc E hu (j := sv) (by omega) dX1_split_23 ?_
      refine dt_tp (show pc sv = nI pv from hpq) ?_
      refine lv_istore (lv' := [(4, .int (nI pv)), (0, .ref h0), (1, .int (nI sv)), (2, .int (nI tv)), (3, .int v)]) hx hb dX1_split_24 hl (by decide) rfl (fun ls hl => ?_)
      refine lv_iload_n hx hb dX1_split_26 rfl (lv_at hl 4 rfl) ?_
      refine lv_iconst (v := 1) hx hb dX1_split_27 (by decide) ?_
      refine lv_icmp_lt (tgt := 50) hx hb dX1_split_28 (by decide) (fun c3 => ?_) (fun c3 => ?_)
      · refine lv_iconst (v := (-1)) hx hb dX1_split_50 (by decide) ?_
        rw [show dm_split (hd, pc, rt, par, st, sz, mr, nb, made, gg) (nI sv) (nI tv) v = (-1, (hd, pc, rt, par, st, sz, mr, nb, made, gg)) from dm_split_noz hs hp hpq (fun q => Int32.not_lt.mpr q.1 c3)]
        exact dt_ri E hu dX1_split_51
      · refine lv_iload_n hx hb dX1_split_31 rfl (lv_at hl 4 rfl) ?_
        refine lv_aload_n hx hb dX1_split_32 rfl (lv_at hl 1 rfl) ?_
        refine dt_g1_sz E hu dX1_split_33 ?_
        refine lv_iload hx hb dX1_split_36 (lv_at hl 0 rfl) ?_
        refine dt_l1_sz E hu (j := pv) (by omega) dX1_split_38 ?_
        refine lv_aload_n hx hb dX1_split_39 rfl (lv_at hl 1 rfl) ?_
        refine dt_g1_mr E hu dX1_split_40 ?_
        refine lv_iload hx hb dX1_split_43 (lv_at hl 0 rfl) ?_
        refine dt_l1_mr E hu (j := pv) (by omega) dX1_split_45 ?_
        refine lv_isub hx hb dX1_split_46 ?_
        refine lv_icmp_le (tgt := 52) hx hb dX1_split_47 (by decide) (fun c4 => ?_) (fun c4 => ?_)
        · rw [show dm_split (hd, pc, rt, par, st, sz, mr, nb, made, gg) (nI sv) (nI tv) v = _ from dm_split_yes hh hf (Int32.not_lt.mp c3) c4 hs ht hp hpq]
          refine lv_iconst (v := nI 0) hx hb dX1_split_52 (by decide) ?_
          refine lv_istore (lv' := [(5, .int (nI 0)), (4, .int (nI pv)), (0, .ref h0), (1, .int (nI sv)), (2, .int (nI tv)), (3, .int v)]) hx hb dX1_split_53 hl (by decide) rfl (fun ls hl => ?_)
          have fin : ∀ (u : Nat) (H : Heap) (locs : List Loc), u ≤ 15 → u = dt_sc hd pc 15 0 → dt_hq D A s (dt_w1 d dz h0 a (hd, pc, rt, par, st, sz, mr, nb, made, gg)) H locs → ∀ (ls : Array Slot), lv_has ls 6 [(0, .ref h0), (1, .int (nI sv)), (2, .int (nI tv)), (3, .int v), (4, .int (nI pv)), (5, .int (nI u))] → W p l e (dt_rm 1 24) s m ([.ref h0, .int (nI sv), .int (nI tv), .int v] : List Value).toArray below meth c H locs 0 0 (MQ below (dt_QI [(d, .int), (dz, .boolean)] (dt_w1 d dz h0 a (upd hd tv 1, upd pc tv (nI (dt_sc hd pc 15 0)), upd rt tv (rt sv), upd par tv (nI sv), upd st (dt_sc hd pc 15 0) (st pv + mr pv), upd sz (dt_sc hd pc 15 0) v, upd (upd mr (dt_sc hd pc 15 0) 0) pv (upd mr (dt_sc hd pc 15 0) 0 pv + v), upd nb (dt_sc hd pc 15 0) made, made + 1, gg)) (upd st (dt_sc hd pc 15 0) (st pv + mr pv) (dt_sc hd pc 15 0)) D A) ([.ref h0, .int (nI sv), .int (nI tv), .int v] : List Value).toArray s 0 0 A) (F0 m 77 ls []) := by
            intro u H locs hu15 hus hu ls hl
            rw [← hus]
            refine lv_aload_n hx hb dX1_split_77 rfl (lv_at hl 0 rfl) ?_
            refine dt_g1_st E hu dX1_split_78 ?_
            refine lv_iload hx hb dX1_split_81 (lv_at hl 5 rfl) ?_
            refine lv_aload_n hx hb dX1_split_83 rfl (lv_at hl 0 rfl) ?_
            refine dt_g1_st E hu dX1_split_84 ?_
            refine lv_iload hx hb dX1_split_87 (lv_at hl 4 rfl) ?_
            refine dt_l1_st E hu (j := pv) (by omega) dX1_split_89 ?_
            refine lv_aload_n hx hb dX1_split_90 rfl (lv_at hl 0 rfl) ?_
            refine dt_g1_mr E hu dX1_split_91 ?_
            refine lv_iload hx hb dX1_split_94 (lv_at hl 4 rfl) ?_
            refine dt_l1_mr E hu (j := pv) (by omega) dX1_split_96 ?_
            refine lv_iadd hx hb dX1_split_97 ?_
            refine dt_s1_st E hu (j := u) (x := (st pv) + (mr pv)) (by omega) dX1_split_98 (fun H locs hu => ?_)
            refine lv_aload_n hx hb dX1_split_99 rfl (lv_at hl 0 rfl) ?_
            refine dt_g1_sz E hu dX1_split_100 ?_
            refine lv_iload hx hb dX1_split_103 (lv_at hl 5 rfl) ?_
            refine lv_iload_n hx hb dX1_split_105 rfl (lv_at hl 3 rfl) ?_
            refine dt_s1_sz E hu (j := u) (x := v) (by omega) dX1_split_106 (fun H locs hu => ?_)
            refine lv_aload_n hx hb dX1_split_107 rfl (lv_at hl 0 rfl) ?_
            refine dt_g1_mr E hu dX1_split_108 ?_
            refine lv_iload hx hb dX1_split_111 (lv_at hl 5 rfl) ?_
            refine lv_iconst (v := 0) hx hb dX1_split_113 (by decide) ?_
            refine dt_s1_mr E hu (j := u) (x := 0) (by omega) dX1_split_114 (fun H locs hu => ?_)
            refine lv_aload_n hx hb dX1_split_115 rfl (lv_at hl 0 rfl) ?_
            refine dt_g1_nb E hu dX1_split_116 ?_
            refine lv_iload hx hb dX1_split_119 (lv_at hl 5 rfl) ?_
            refine lv_aload_n hx hb dX1_split_121 rfl (lv_at hl 0 rfl) ?_
            refine dt_g1_made E hu dX1_split_122 ?_
            refine dt_s1_nb E hu (j := u) (x := made) (by omega) dX1_split_125 (fun H locs hu => ?_)
            refine lv_aload_n hx hb dX1_split_126 rfl (lv_at hl 0 rfl) ?_
            refine lv_dup hx hb dX1_split_127 rfl ?_
            refine dt_g1_made E hu dX1_split_128 ?_
            refine lv_iconst (v := 1) hx hb dX1_split_131 (by decide) ?_
            refine lv_iadd hx hb dX1_split_132 ?_
            refine dt_p1_made E hu dX1_split_133 (fun H locs hu => ?_)
            refine lv_aload_n hx hb dX1_split_136 rfl (lv_at hl 0 rfl) ?_
            refine dt_g1_mr E hu dX1_split_137 ?_
            refine lv_iload hx hb dX1_split_140 (lv_at hl 4 rfl) ?_
            refine lv_dup2_11 hx hb dX1_split_142 rfl rfl ?_
            refine dt_l1_mr E hu (j := pv) (by omega) dX1_split_143 ?_
            refine lv_iload_n hx hb dX1_split_144 rfl (lv_at hl 3 rfl) ?_
            refine lv_iadd hx hb dX1_split_145 ?_
            refine dt_s1_mr E hu (j := pv) (x := ((upd mr u 0) pv) + v) (by omega) dX1_split_146 (fun H locs hu => ?_)
            refine lv_aload_n hx hb dX1_split_147 rfl (lv_at hl 0 rfl) ?_
            refine lv_iload_n hx hb dX1_split_148 rfl (lv_at hl 2 rfl) ?_
            refine lv_iload hx hb dX1_split_149 (lv_at hl 5 rfl) ?_
            refine lv_aload_n hx hb dX1_split_151 rfl (lv_at hl 0 rfl) ?_
            refine dt_g1_rt E hu dX1_split_152 ?_
            refine lv_iload_n hx hb dX1_split_155 rfl (lv_at hl 1 rfl) ?_
            refine dt_l1_rt E hu (j := sv) (by omega) dX1_split_156 ?_
            refine lv_iload_n hx hb dX1_split_157 rfl (lv_at hl 1 rfl) ?_
            refine dt_k1_hold E hu ht ⟨by decide, by decide⟩ hl.1 (Nat.le_of_ble_eq_true rfl) ⟨Nat.zero_le _, Nat.zero_le _⟩ dX1_split_158 (fun H locs hu => ?_)
            refine lv_aload_n hx hb dX1_split_161 rfl (lv_at hl 0 rfl) ?_
            refine dt_g1_st E hu dX1_split_162 ?_
            refine lv_iload hx hb dX1_split_165 (lv_at hl 5 rfl) ?_
            refine dt_l1_st E hu (j := u) (by omega) dX1_split_167 ?_
            exact dt_ri E hu dX1_split_168
          have lp : ∀ (dd u : Nat) (H : Heap) (locs : List Loc), u + dd = 15 → dt_sc hd pc dd u = dt_sc hd pc 15 0 → dt_hq D A s (dt_w1 d dz h0 a (hd, pc, rt, par, st, sz, mr, nb, made, gg)) H locs → ∀ (ls : Array Slot), lv_has ls 6 [(0, .ref h0), (1, .int (nI sv)), (2, .int (nI tv)), (3, .int v), (4, .int (nI pv)), (5, .int (nI u))] → W p l e (dt_rm 1 24) s m ([.ref h0, .int (nI sv), .int (nI tv), .int v] : List Value).toArray below meth c H locs 0 0 (MQ below (dt_QI [(d, .int), (dz, .boolean)] (dt_w1 d dz h0 a (upd hd tv 1, upd pc tv (nI (dt_sc hd pc 15 0)), upd rt tv (rt sv), upd par tv (nI sv), upd st (dt_sc hd pc 15 0) (st pv + mr pv), upd sz (dt_sc hd pc 15 0) v, upd (upd mr (dt_sc hd pc 15 0) 0) pv (upd mr (dt_sc hd pc 15 0) 0 pv + v), upd nb (dt_sc hd pc 15 0) made, made + 1, gg)) (upd st (dt_sc hd pc 15 0) (st pv + mr pv) (dt_sc hd pc 15 0)) D A) ([.ref h0, .int (nI sv), .int (nI tv), .int v] : List Value).toArray s 0 0 A) (F0 m 55 ls []) := by
            intro dd
            induction dd with
            | zero =>
              intro u H locs hk hf2 hu ls hl
              refine lv_iload hx hb dX1_split_55 (lv_at hl 5 rfl) ?_
              refine lv_bipush (v := nI 15) hx hb dX1_split_57 (by decide) ?_
              refine lv_icmp_ge (tgt := 77) hx hb dX1_split_59 (by decide) (fun c5 => ?_) (fun c5 => absurd (nI_le (by omega) (by omega)) c5)
              exact fin u H locs (by omega) hf2 hu ls hl
            | succ dd ih =>
              intro u H locs hk hf2 hu ls hl
              refine lv_iload hx hb dX1_split_55 (lv_at hl 5 rfl) ?_
              refine lv_bipush (v := nI 15) hx hb dX1_split_57 (by decide) ?_
              refine lv_icmp_ge (tgt := 77) hx hb dX1_split_59 (by decide) (fun c5 => absurd c5 (nI_ge (by omega) (by omega))) (fun c5 => ?_)
              refine lv_aload_n hx hb dX1_split_62 rfl (lv_at hl 0 rfl) ?_
              refine lv_iload hx hb dX1_split_63 (lv_at hl 5 rfl) ?_
              refine dt_k1_there E hu  ⟨by decide, by decide⟩ hl.1 (Nat.le_of_ble_eq_true rfl) ⟨Nat.zero_le _, Nat.zero_le _⟩ dX1_split_65 (fun H locs hu => ?_)
              refine lv_if_eq (tgt := 77) hx hb dX1_split_68 (by decide) (fun c6 => ?_) (fun c6 => ?_)
              · exact fin u H locs (by omega) (by rw [← hf2]; exact (if_neg (fun q => by rw [dt_b_f.mp c6] at q; cases q)).symm) hu ls hl
              · refine lv_iinc (v := nI (u + 1)) (lv' := [(5, .int (nI (u + 1))), (0, .ref h0), (1, .int (nI sv)), (2, .int (nI tv)), (3, .int v), (4, .int (nI pv))]) hx hb dX1_split_71 hl (k := 5) rfl (dt_inc _) (by decide) rfl (fun ls hl => ?_)
                refine lv_goto (tgt := 55) hx hb dX1_split_74 (by decide) ?_
                exact ih (u + 1) H locs (by omega) (by rw [← hf2]; exact (if_pos (dt_b_t.mp c6)).symm) hu ls (lv_sub hl [1, 2, 3, 4, 5, 0] rfl)
          exact lp 15 0 _ _ (by omega) rfl hu ls (lv_sub hl [2, 3, 4, 5, 1, 0] rfl)
        · refine lv_iconst (v := (-1)) hx hb dX1_split_50 (by decide) ?_
          rw [show dm_split (hd, pc, rt, par, st, sz, mr, nb, made, gg) (nI sv) (nI tv) v = (-1, (hd, pc, rt, par, st, sz, mr, nb, made, gg)) from dm_split_noz hs hp hpq (fun q => c4 q.2)]
          exact dt_ri E hu dX1_split_51
    · refine lv_iconst (v := (-1)) hx hb dX1_split_16 (by decide) ?_
      rw [show dm_split (hd, pc, rt, par, st, sz, mr, nb, made, gg) x y v = (-1, (hd, pc, rt, par, st, sz, mr, nb, made, gg)) from dm_split_no (fun q => by rw [dt_b_t.mp c2] at q; cases q.2)]
      exact dt_ri E hu dX1_split_17
end
section
set_option maxRecDepth 100000
theorem dt_arr_int {s : State} {args : Array Value} (h : (Cond.arrayClass .int).before args s = true) : ∃ d : ClassId, ArrOfT s d .int ∧ va_RA s d .int := by
  obtain ⟨cA, kA, comp, h1, h2, h3⟩ := Cond.arrayClass_spec h
  exact ⟨cA, fun n z => ⟨fun k h => (by cases h), kA, h2, comp, h3⟩, h1⟩
theorem dt_arr_bool {s : State} {args : Array Value} (h : (Cond.arrayClass .boolean).before args s = true) : ∃ d : ClassId, ArrOfT s d .boolean ∧ va_RA s d .boolean := by
  obtain ⟨cA, kA, comp, h1, h2, h3⟩ := Cond.arrayClass_spec h
  exact ⟨cA, fun n z => ⟨fun k h => (by cases h), kA, h2, comp, h3⟩, h1⟩
section DTI
variable {p : Program} {l : Launch} {e : Env} {R : Room} {s : State} {m : MethodId} {args : Array Value} {below : List Frame} {meth : Method} {c : Code} {H : Heap} {locs : List Loc} {cells slots : Nat} {Q : State → Prop}
variable {cc : ByteArray} {nL : Nat} {own : String} {rty : Option FieldType} {D : va_G} {tys : List (ClassId × FieldType)} {A : Nat → Prop} {ws : va_W} {pw : Nat} {ls : Array Slot} {rest : List Value} {d : ClassId}
theorem dt_new_int (E : dt_ev p s m args meth c cc nL own rty D tys) (h : dt_hq D A s ws H locs) (t0 : Nat) (ht : tys[t0]? = some (d, .int)) (hcells : cells + 1 ≤ R.cells) (hslots : slots + 16 ≤ R.slots) (hdg : decode cc pw = .ok (.newarray .int, 2)) (kk : ∀ (q : Nat) (H1 : Heap), dt_hq D A s (ws ++ [(q, .inl (d, 16, .inl (fun _ => 0)))]) H1 locs → W p l e R s m args below meth c H1 locs (cells + 1) (slots + 16) Q (F0 m (pw + 2) ls (.ref q :: rest))) : W p l e R s m args below meth c H locs cells slots Q (F0 m pw ls (.int 16 :: rest)) := by
  refine va_newa (atype := .int) (N' := 16) (ty := .int) (a0 := (16, .inl (fun _ => 0))) E.1 E.2.1 (E.2.2.2.2.1 _ q63) rfl E.2.2.2.2.2.1 h.1 h.2.1 h.2.2.1 h.2.2.2 (fun _ => rfl) (by decide) (by decide) (by decide) hcells hslots hdg (fun q cA H1 hK hP hD hS => ?_)
  have h1 : s.vm.findClass _ = some d := (E.2.2.2.2.2.1.2 t0 _ ht).2
  have h2 : s.vm.findClass _ = some cA := (hK.2 tys.length (cA, .int) (by simp)).2
  have hc : cA = d := Option.some.inj (h2.symm.trans h1)
  subst hc
  exact kk q H1 ⟨hP, hD, hS, h.2.2.2⟩
theorem dt_new_bool (E : dt_ev p s m args meth c cc nL own rty D tys) (h : dt_hq D A s ws H locs) (t0 : Nat) (ht : tys[t0]? = some (d, .boolean)) (hcells : cells + 1 ≤ R.cells) (hslots : slots + 16 ≤ R.slots) (hdg : decode cc pw = .ok (.newarray .boolean, 2)) (kk : ∀ (q : Nat) (H1 : Heap), dt_hq D A s (ws ++ [(q, .inl (d, 16, .inl (fun _ => 0)))]) H1 locs → W p l e R s m args below meth c H1 locs (cells + 1) (slots + 16) Q (F0 m (pw + 2) ls (.ref q :: rest))) : W p l e R s m args below meth c H locs cells slots Q (F0 m pw ls (.int 16 :: rest)) := by
  refine va_newa (atype := .boolean) (N' := 16) (ty := .boolean) (a0 := (16, .inl (fun _ => 0))) E.1 E.2.1 (E.2.2.2.2.1 _ q185) rfl E.2.2.2.2.2.1 h.1 h.2.1 h.2.2.1 h.2.2.2 (fun _ => rfl) (by decide) (by decide) (by decide) hcells hslots hdg (fun q cA H1 hK hP hD hS => ?_)
  have h1 : s.vm.findClass _ = some d := (E.2.2.2.2.2.1.2 t0 _ ht).2
  have h2 : s.vm.findClass _ = some cA := (hK.2 tys.length (cA, .boolean) (by simp)).2
  have hc : cA = d := Option.some.inj (h2.symm.trans h1)
  subst hc
  exact kk q H1 ⟨hP, hD, hS, h.2.2.2⟩
theorem dt_putF0 (E : dt_ev p s m args meth c cc nL RX0 rty D tys) (h : dt_hq D A s ws H locs) (hin : meth.name = "<init>") {a0 : Nat} {fs : List Value} (he : ws[0]? = some (a0, .inr (0, fs))) (k : Nat) (hk : k < 11) {idx : Nat} (hl : Cond.fieldLink RX0 idx (TX0 k).1 (TX0 k).2.1 (TX0 k).2.2.1 ∈ lw_all) (hfin : (TX0 k).2.2.2 = true) (hdecl : (TX0 k).1 = RX0) {ty : FieldType} {v : Value} (hd : parseFieldDescriptor (TX0 k).2.2.1 = some ty) (hn : narrow ty v = v) (hfit : fits ty v = true) (hlt : k < fs.length) (hdg : decode cc pw = .ok (.putfield idx, 3)) (kk : ∀ (H1 : Heap) (locs1 : List Loc), dt_hq D A s (ws.set 0 (a0, .inr (0, fs.set k v))) H1 locs1 → W p l e R s m args below meth c H1 locs1 cells slots Q (F0 m (pw + 3) ls rest)) : W p l e R s m args below meth c H locs cells slots Q (F0 m pw ls (v :: .ref a0 :: rest)) :=
  va_putF (D := D) (own := RX0) (C := RX0) (T := TX0) (N := 11) (ci := 0) (v := v) (ty := ty) E.1 E.2.1 E.2.2.2.2.1 in_X0 tyX0 tyX0_ok nmX0 E.2.2.2.1 E.2.2.2.2.2.1 h.1 h.2.1 h.2.2.1 0 he rfl k hk (E.2.2.2.2.1 _ hl) (fun _ h9 => h9) hfin hin hdecl hd hn hfit hlt hdg (fun H1 locs1 h1 h2 h3 => kk H1 locs1 ⟨h1, h2, h3, h.2.2.2⟩)
theorem dt_putF1 (E : dt_ev p s m args meth c cc nL RX1 rty D tys) (h : dt_hq D A s ws H locs) (hin : meth.name = "<init>") {a0 : Nat} {fs : List Value} (he : ws[0]? = some (a0, .inr (1, fs))) (k : Nat) (hk : k < 10) {idx : Nat} (hl : Cond.fieldLink RX1 idx (TX1 k).1 (TX1 k).2.1 (TX1 k).2.2.1 ∈ lw_all) (hfin : (TX1 k).2.2.2 = true) (hdecl : (TX1 k).1 = RX1) {ty : FieldType} {v : Value} (hd : parseFieldDescriptor (TX1 k).2.2.1 = some ty) (hn : narrow ty v = v) (hfit : fits ty v = true) (hlt : k < fs.length) (hdg : decode cc pw = .ok (.putfield idx, 3)) (kk : ∀ (H1 : Heap) (locs1 : List Loc), dt_hq D A s (ws.set 0 (a0, .inr (1, fs.set k v))) H1 locs1 → W p l e R s m args below meth c H1 locs1 cells slots Q (F0 m (pw + 3) ls rest)) : W p l e R s m args below meth c H locs cells slots Q (F0 m pw ls (v :: .ref a0 :: rest)) :=
  va_putF (D := D) (own := RX1) (C := RX1) (T := TX1) (N := 10) (ci := 1) (v := v) (ty := ty) E.1 E.2.1 E.2.2.2.2.1 in_X1 tyX1 tyX1_ok nmX1 E.2.2.2.1 E.2.2.2.2.2.1 h.1 h.2.1 h.2.2.1 0 he rfl k hk (E.2.2.2.2.1 _ hl) (fun _ h9 => h9) hfin hin hdecl hd hn hfit hlt hdg (fun H1 locs1 h1 h2 h3 => kk H1 locs1 ⟨h1, h2, h3, h.2.2.2⟩)
end DTI
abbrev dt_o0 (h0 : Nat) : va_W := [(h0, .inr (0, [.int 0, .null, .null, .null, .null, .null, .int 0, .null, .null, .null, .null]))]
abbrev dt_B0 (D : va_G) (h0 : Nat) (A : Nat → Prop) (u : (ClassId × (Nat → Nat))) (t : State) : Prop := va_P D vwCl (dt_w0 u.1 h0 u.2 dt_i0) t.heap ∧ va_K D vwCl [(u.1, .int)] t ∧ va_D A (dt_w0 u.1 h0 u.2 dt_i0)
set_option maxHeartbeats 4000000 in
set_option maxRecDepth 100000 in
theorem m0_init (l : Launch) (D : va_G) (h0 : Nat) (z : Nat) : Met l yX0_init (ws_ yX0_init cX0_init 2 none) ({ frames := 1, cells := 9, slots := 144, locals := 12 }) (va_Pc [.ref h0] (fun U => U.heap.size = z ∧ va_P D vwCl (dt_o0 h0) U.heap ∧ va_K D vwCl [] U ∧ va_D (fun _ => True) (dt_o0 h0))) (va_Qv (fun (_ : (ClassId × (Nat → Nat))) => True) (dt_B0 D h0 (va_A (dt_o0 h0) z)) (va_A (dt_o0 h0) z)) 9 144 (va_A (dt_o0 h0) z) := by
  refine Met.ofW (cc := cX0_init) (maxL := 2) (ret := none) (by decide) rfl ?_
  intro p e s m args below meth c s₁ B hml hv
  obtain ⟨rfl, hsz, hP, hK, hD0⟩ := hv
  have hx := B.exec
  have hb := B.bytes
  have hr := B.returns
  have hts := atoms_spec (ws := ws_ yX0_init cX0_init 2 none) B.pre
  have hts : ∀ w ∈ lw_all, w.before _ s = true := fun w h => hts w (List.mem_cons_of_mem _ h)
  have hown : s.vm.findClass RX0 = some m.cls := findClass_of_methodNamed B.named
  have hlocks := B.notSynchronized
  have hin : meth.name = "<init>" := (name_of_methodNamed B.named B.method).1
  subst hsz
  have hD := hD0.self (sz := s.heap.size)
  generalize hAe : va_A (dt_o0 h0) s.heap.size = A at hD ⊢
  have hA : ∀ q : Nat, s.heap.size ≤ q → A q := fun q h => by rw [← hAe]; exact Or.inr h
  obtain ⟨d, d1, d2⟩ := dt_arr_int (hts _ q63)
  have hK : va_K D vwCl [(d, .int)] s := ⟨hK.1, fun k q h => by
    match k, h with
    | 0, h => cases h; exact ⟨d1, d2⟩
    | k + 1, h => simp at h⟩
  have E : dt_ev p s m ([.ref h0] : List Value).toArray meth c cX0_init 2 RX0 none D [(d, .int)] := ⟨hx, hb, hml, hown, hts, hK, hlocks, hr⟩
  have hu : dt_hq D A s (dt_o0 h0) s.heap [] := ⟨hP, hD, va_S.rf, hA⟩
  have hl := lv_entry ([.ref h0]) (n := 2) (Nat.le_of_ble_eq_true rfl)
  rw [lg_entry_eq]
  generalize (lg_sl ([.ref h0]) ++ List.replicate (2 - (lg_sl ([.ref h0])).length) Slot.unset).toArray = ls at hl ⊢
  have hl : lv_has ls 2 [(0, .ref h0)] := hl
  refine lv_aload_n hx hb dX0_init_0 rfl (lv_at hl 0 rfl) ?_
  refine W.objInit hx hb hown (hts _ q26) (hts _ q27) (hts _ q28) rfl (by rw [hml]; exact hl.1) rfl dX0_init_1 (Nat.le_of_ble_eq_true rfl) (Nat.le_of_ble_eq_true rfl) ?_
  refine W.eq (g2 := F0 m 4 ls []) rfl ?_
  refine lv_aload_n hx hb dX0_init_4 rfl (lv_at hl 0 rfl) ?_
  refine lv_bipush (v := 16) hx hb dX0_init_5 (by decide) ?_
  refine dt_new_int E hu 0 rfl (by decide) (by decide) dX0_init_7 (fun q1 H hu => ?_)
  refine dt_putF0 (ty := .array .int) E hu hin rfl 1 (by decide) q30 rfl rfl (by decide +kernel) rfl rfl (Nat.le_of_ble_eq_true rfl) dX0_init_9 (fun H locs hu => ?_)
  have hu : dt_hq D A s [(h0, .inr (0, [.int 0, .ref q1, .null, .null, .null, .null, .int 0, .null, .null, .null, .null])), (q1, .inl (d, 16, .inl (fun _ => 0)))] H locs := hu
  refine lv_aload_n hx hb dX0_init_12 rfl (lv_at hl 0 rfl) ?_
  refine lv_bipush (v := 16) hx hb dX0_init_13 (by decide) ?_
  refine dt_new_int E hu 0 rfl (by decide) (by decide) dX0_init_15 (fun q2 H hu => ?_)
  refine dt_putF0 (ty := .array .int) E hu hin rfl 2 (by decide) q31 rfl rfl (by decide +kernel) rfl rfl (Nat.le_of_ble_eq_true rfl) dX0_init_17 (fun H locs hu => ?_)
  have hu : dt_hq D A s [(h0, .inr (0, [.int 0, .ref q1, .ref q2, .null, .null, .null, .int 0, .null, .null, .null, .null])), (q1, .inl (d, 16, .inl (fun _ => 0))), (q2, .inl (d, 16, .inl (fun _ => 0)))] H locs := hu
  refine lv_aload_n hx hb dX0_init_20 rfl (lv_at hl 0 rfl) ?_
  refine lv_bipush (v := 16) hx hb dX0_init_21 (by decide) ?_
  refine dt_new_int E hu 0 rfl (by decide) (by decide) dX0_init_23 (fun q3 H hu => ?_)
  refine dt_putF0 (ty := .array .int) E hu hin rfl 3 (by decide) q32 rfl rfl (by decide +kernel) rfl rfl (Nat.le_of_ble_eq_true rfl) dX0_init_25 (fun H locs hu => ?_)
  have hu : dt_hq D A s [(h0, .inr (0, [.int 0, .ref q1, .ref q2, .ref q3, .null, .null, .int 0, .null, .null, .null, .null])), (q1, .inl (d, 16, .inl (fun _ => 0))), (q2, .inl (d, 16, .inl (fun _ => 0))), (q3, .inl (d, 16, .inl (fun _ => 0)))] H locs := hu
  refine lv_aload_n hx hb dX0_init_28 rfl (lv_at hl 0 rfl) ?_
  refine lv_bipush (v := 16) hx hb dX0_init_29 (by decide) ?_
  refine dt_new_int E hu 0 rfl (by decide) (by decide) dX0_init_31 (fun q4 H hu => ?_)
  refine dt_putF0 (ty := .array .int) E hu hin rfl 4 (by decide) q33 rfl rfl (by decide +kernel) rfl rfl (Nat.le_of_ble_eq_true rfl) dX0_init_33 (fun H locs hu => ?_)
  have hu : dt_hq D A s [(h0, .inr (0, [.int 0, .ref q1, .ref q2, .ref q3, .ref q4, .null, .int 0, .null, .null, .null, .null])), (q1, .inl (d, 16, .inl (fun _ => 0))), (q2, .inl (d, 16, .inl (fun _ => 0))), (q3, .inl (d, 16, .inl (fun _ => 0))), (q4, .inl (d, 16, .inl (fun _ => 0)))] H locs := hu
  refine lv_aload_n hx hb dX0_init_36 rfl (lv_at hl 0 rfl) ?_
  refine lv_bipush (v := 16) hx hb dX0_init_37 (by decide) ?_
  refine dt_new_int E hu 0 rfl (by decide) (by decide) dX0_init_39 (fun q5 H hu => ?_)
  refine dt_putF0 (ty := .array .int) E hu hin rfl 5 (by decide) q34 rfl rfl (by decide +kernel) rfl rfl (Nat.le_of_ble_eq_true rfl) dX0_init_41 (fun H locs hu => ?_)
  have hu : dt_hq D A s [(h0, .inr (0, [.int 0, .ref q1, .ref q2, .ref q3, .ref q4, .ref q5, .int 0, .null, .null, .null, .null])), (q1, .inl (d, 16, .inl (fun _ => 0))), (q2, .inl (d, 16, .inl (fun _ => 0))), (q3, .inl (d, 16, .inl (fun _ => 0))), (q4, .inl (d, 16, .inl (fun _ => 0))), (q5, .inl (d, 16, .inl (fun _ => 0)))] H locs := hu
  refine lv_aload_n hx hb dX0_init_44 rfl (lv_at hl 0 rfl) ?_
  refine lv_bipush (v := 16) hx hb dX0_init_45 (by decide) ?_
  refine dt_new_int E hu 0 rfl (by decide) (by decide) dX0_init_47 (fun q6 H hu => ?_)
  refine dt_putF0 (ty := .array .int) E hu hin rfl 7 (by decide) q36 rfl rfl (by decide +kernel) rfl rfl (Nat.le_of_ble_eq_true rfl) dX0_init_49 (fun H locs hu => ?_)
  have hu : dt_hq D A s [(h0, .inr (0, [.int 0, .ref q1, .ref q2, .ref q3, .ref q4, .ref q5, .int 0, .ref q6, .null, .null, .null])), (q1, .inl (d, 16, .inl (fun _ => 0))), (q2, .inl (d, 16, .inl (fun _ => 0))), (q3, .inl (d, 16, .inl (fun _ => 0))), (q4, .inl (d, 16, .inl (fun _ => 0))), (q5, .inl (d, 16, .inl (fun _ => 0))), (q6, .inl (d, 16, .inl (fun _ => 0)))] H locs := hu
  refine lv_aload_n hx hb dX0_init_52 rfl (lv_at hl 0 rfl) ?_
  refine lv_bipush (v := 16) hx hb dX0_init_53 (by decide) ?_
  refine dt_new_int E hu 0 rfl (by decide) (by decide) dX0_init_55 (fun q7 H hu => ?_)
  refine dt_putF0 (ty := .array .int) E hu hin rfl 8 (by decide) q37 rfl rfl (by decide +kernel) rfl rfl (Nat.le_of_ble_eq_true rfl) dX0_init_57 (fun H locs hu => ?_)
  have hu : dt_hq D A s [(h0, .inr (0, [.int 0, .ref q1, .ref q2, .ref q3, .ref q4, .ref q5, .int 0, .ref q6, .ref q7, .null, .null])), (q1, .inl (d, 16, .inl (fun _ => 0))), (q2, .inl (d, 16, .inl (fun _ => 0))), (q3, .inl (d, 16, .inl (fun _ => 0))), (q4, .inl (d, 16, .inl (fun _ => 0))), (q5, .inl (d, 16, .inl (fun _ => 0))), (q6, .inl (d, 16, .inl (fun _ => 0))), (q7, .inl (d, 16, .inl (fun _ => 0)))] H locs := hu
  refine lv_aload_n hx hb dX0_init_60 rfl (lv_at hl 0 rfl) ?_
  refine lv_bipush (v := 16) hx hb dX0_init_61 (by decide) ?_
  refine dt_new_int E hu 0 rfl (by decide) (by decide) dX0_init_63 (fun q8 H hu => ?_)
  refine dt_putF0 (ty := .array .int) E hu hin rfl 9 (by decide) q38 rfl rfl (by decide +kernel) rfl rfl (Nat.le_of_ble_eq_true rfl) dX0_init_65 (fun H locs hu => ?_)
  have hu : dt_hq D A s [(h0, .inr (0, [.int 0, .ref q1, .ref q2, .ref q3, .ref q4, .ref q5, .int 0, .ref q6, .ref q7, .ref q8, .null])), (q1, .inl (d, 16, .inl (fun _ => 0))), (q2, .inl (d, 16, .inl (fun _ => 0))), (q3, .inl (d, 16, .inl (fun _ => 0))), (q4, .inl (d, 16, .inl (fun _ => 0))), (q5, .inl (d, 16, .inl (fun _ => 0))), (q6, .inl (d, 16, .inl (fun _ => 0))), (q7, .inl (d, 16, .inl (fun _ => 0))), (q8, .inl (d, 16, .inl (fun _ => 0)))] H locs := hu
  refine lv_aload_n hx hb dX0_init_68 rfl (lv_at hl 0 rfl) ?_
  refine lv_bipush (v := 16) hx hb dX0_init_69 (by decide) ?_
  refine dt_new_int E hu 0 rfl (by decide) (by decide) dX0_init_71 (fun q9 H hu => ?_)
  refine dt_putF0 (ty := .array .int) E hu hin rfl 10 (by decide) q39 rfl rfl (by decide +kernel) rfl rfl (Nat.le_of_ble_eq_true rfl) dX0_init_73 (fun H locs hu => ?_)
  have hu : dt_hq D A s [(h0, .inr (0, [.int 0, .ref q1, .ref q2, .ref q3, .ref q4, .ref q5, .int 0, .ref q6, .ref q7, .ref q8, .ref q9])), (q1, .inl (d, 16, .inl (fun _ => 0))), (q2, .inl (d, 16, .inl (fun _ => 0))), (q3, .inl (d, 16, .inl (fun _ => 0))), (q4, .inl (d, 16, .inl (fun _ => 0))), (q5, .inl (d, 16, .inl (fun _ => 0))), (q6, .inl (d, 16, .inl (fun _ => 0))), (q7, .inl (d, 16, .inl (fun _ => 0))), (q8, .inl (d, 16, .inl (fun _ => 0))), (q9, .inl (d, 16, .inl (fun _ => 0)))] H locs := hu
  obtain ⟨a, ea⟩ : ∃ a : Nat → Nat, a = (fun k => match k with | 1 => q1 | 2 => q2 | 3 => q3 | 4 => q4 | 5 => q5 | 6 => q6 | 7 => q7 | 8 => q8 | _ => q9 : Nat → Nat) := ⟨_, rfl⟩
  have hu : dt_hq D A s (dt_w0 d h0 a (0, 0, (fun _ => 0), (fun _ => 0), (fun _ => 0), (fun _ => 0), (fun _ => 0), (fun _ => 0), (fun _ => 0), (fun _ => 0), (fun _ => 0))) H locs := by rw [ea]; exact hu
  refine lv_iconst (v := nI 0) hx hb dX0_init_76 (by decide) ?_
  refine lv_istore_n (lv' := [(1, .int (nI 0)), (0, .ref h0)]) hx hb dX0_init_77 rfl hl (by decide) rfl (fun ls hl => ?_)
  have lp : ∀ (dd k : Nat) (f : dt_F) (H : Heap) (locs : List Loc), k + dd = 16 → dt_ng dd k f = dt_ng 16 0 (fun _ => 0) → dt_hq D A s (dt_w0 d h0 a (0, 0, (fun _ => 0), (fun _ => 0), (fun _ => 0), (fun _ => 0), (fun _ => 0), (fun _ => 0), (fun _ => 0), f, (fun _ => 0))) H locs → ∀ (ls : Array Slot), lv_has ls 2 [(0, .ref h0), (1, .int (nI k))] → W p l e ({ frames := 1, cells := 9, slots := 144, locals := 12 }) s m ([.ref h0] : List Value).toArray below meth c H locs 9 144 (MQ below (va_Qv (fun (_ : ClassId × (Nat → Nat)) => True) (dt_B0 D h0 A) A) ([.ref h0] : List Value).toArray s 9 144 A) (F0 m 78 ls []) := by
    intro dd
    induction dd with
    | zero =>
      intro k f H locs hk hf hu ls hl
      have hf : f = dt_ng 16 0 (fun _ => 0) := hf
      subst hf
      refine lv_iload_n hx hb dX0_init_78 rfl (lv_at hl 1 rfl) ?_
      refine lv_bipush (v := nI 16) hx hb dX0_init_79 (by decide) ?_
      refine lv_icmp_ge (tgt := 97) hx hb dX0_init_81 (by decide) (fun c1 => ?_) (fun c1 => absurd (nI_le (by omega) (by omega)) c1)
      refine lv_aload_n hx hb dX0_init_97 rfl (lv_at hl 0 rfl) ?_
      refine dt_g0_pc E hu dX0_init_98 ?_
      refine lv_iconst (v := nI 0) hx hb dX0_init_101 (by decide) ?_
      refine lv_iconst (v := 0) hx hb dX0_init_102 (by decide) ?_
      refine dt_s0_pc E hu (j := 0) (x := 0) (by omega) dX0_init_103 (fun H locs hu => ?_)
      refine lv_aload_n hx hb dX0_init_104 rfl (lv_at hl 0 rfl) ?_
      refine dt_g0_rt E hu dX0_init_105 ?_
      refine lv_iconst (v := nI 0) hx hb dX0_init_108 (by decide) ?_
      refine lv_bipush (v := 7) hx hb dX0_init_109 (by decide) ?_
      refine dt_s0_rt E hu (j := 0) (x := 7) (by omega) dX0_init_111 (fun H locs hu => ?_)
      refine lv_aload_n hx hb dX0_init_112 rfl (lv_at hl 0 rfl) ?_
      refine dt_g0_sz E hu dX0_init_113 ?_
      refine lv_iconst (v := nI 0) hx hb dX0_init_116 (by decide) ?_
      refine lv_bipush (v := 64) hx hb dX0_init_117 (by decide) ?_
      refine dt_s0_sz E hu (j := 0) (x := 64) (by omega) dX0_init_119 (fun H locs hu => ?_)
      refine lv_aload_n hx hb dX0_init_120 rfl (lv_at hl 0 rfl) ?_
      refine dt_g0_kt E hu dX0_init_121 ?_
      refine lv_iconst (v := nI 0) hx hb dX0_init_124 (by decide) ?_
      refine lv_iconst (v := 1) hx hb dX0_init_125 (by decide) ?_
      refine dt_s0_kt E hu (j := 0) (x := 1) (by omega) dX0_init_126 (fun H locs hu => ?_)
      refine lv_aload_n hx hb dX0_init_127 rfl (lv_at hl 0 rfl) ?_
      refine lv_iconst (v := 1) hx hb dX0_init_128 (by decide) ?_
      refine dt_p0_made E hu dX0_init_129 (fun H locs hu => ?_)
      refine lv_aload_n hx hb dX0_init_132 rfl (lv_at hl 0 rfl) ?_
      refine lv_iconst (v := nI 1) hx hb dX0_init_133 (by decide) ?_
      refine dt_p0_n E hu dX0_init_134 (fun H locs hu => ?_)
      have hu : dt_hq D A s (dt_w0 d h0 a dt_i0) H locs := hu
      exact W.vret hx hb hr (fun t ht hW => ⟨⟨(d, a), rfl, trivial, by rw [ht]; exact hu.1, va_K.moved hW.alike hK, hu.2.1⟩, hu.2.2.1.F ht⟩) hu.2.2.1.2.2 dX0_init_137
    | succ dd ih =>
      intro k f H locs hk hf hu ls hl
      refine lv_iload_n hx hb dX0_init_78 rfl (lv_at hl 1 rfl) ?_
      refine lv_bipush (v := nI 16) hx hb dX0_init_79 (by decide) ?_
      refine lv_icmp_ge (tgt := 97) hx hb dX0_init_81 (by decide) (fun c1 => absurd c1 (nI_ge (by omega) (by omega))) (fun c1 => ?_)
      refine lv_aload_n hx hb dX0_init_84 rfl (lv_at hl 0 rfl) ?_
      refine dt_g0_pc E hu dX0_init_85 ?_
      refine lv_iload_n hx hb dX0_init_88 rfl (lv_at hl 1 rfl) ?_
      refine lv_iconst (v := (-1)) hx hb dX0_init_89 (by decide) ?_
      refine dt_s0_pc E hu (j := k) (x := -1) (by omega) dX0_init_90 (fun H locs hu => ?_)
      refine lv_iinc (v := nI (k + 1)) (lv' := [(1, .int (nI (k + 1))), (0, .ref h0)]) hx hb dX0_init_91 hl (k := 1) rfl (dt_inc _) (by decide) rfl (fun ls hl => ?_)
      refine lv_goto (tgt := 78) hx hb dX0_init_94 (by decide) ?_
      exact ih (k + 1) _ H locs (by omega) hf hu ls (lv_sub hl [1, 0] rfl)
  exact lp 16 0 _ H locs (by omega) rfl hu ls (lv_sub hl [1, 0] rfl)
abbrev dt_o1 (h0 : Nat) : va_W := [(h0, .inr (1, [.null, .null, .null, .null, .null, .null, .null, .null, .int 0, .null]))]
abbrev dt_B1 (D : va_G) (h0 : Nat) (A : Nat → Prop) (u : (ClassId × ClassId × (Nat → Nat))) (t : State) : Prop := va_P D vwCl (dt_w1 u.1 u.2.1 h0 u.2.2 dt_i1) t.heap ∧ va_K D vwCl [(u.1, .int), (u.2.1, .boolean)] t ∧ va_D A (dt_w1 u.1 u.2.1 h0 u.2.2 dt_i1)
set_option maxHeartbeats 4000000 in
set_option maxRecDepth 100000 in
theorem m1_init (l : Launch) (D : va_G) (h0 : Nat) (z : Nat) : Met l yX1_init (ws_ yX1_init cX1_init 1 none) ({ frames := 1, cells := 9, slots := 144, locals := 12 }) (va_Pc [.ref h0] (fun U => U.heap.size = z ∧ va_P D vwCl (dt_o1 h0) U.heap ∧ va_K D vwCl [] U ∧ va_D (fun _ => True) (dt_o1 h0))) (va_Qv (fun (_ : (ClassId × ClassId × (Nat → Nat))) => True) (dt_B1 D h0 (va_A (dt_o1 h0) z)) (va_A (dt_o1 h0) z)) 9 144 (va_A (dt_o1 h0) z) := by
  refine Met.ofW (cc := cX1_init) (maxL := 1) (ret := none) (by decide) rfl ?_
  intro p e s m args below meth c s₁ B hml hv
  obtain ⟨rfl, hsz, hP, hK, hD0⟩ := hv
  have hx := B.exec
  have hb := B.bytes
  have hr := B.returns
  have hts := atoms_spec (ws := ws_ yX1_init cX1_init 1 none) B.pre
  have hts : ∀ w ∈ lw_all, w.before _ s = true := fun w h => hts w (List.mem_cons_of_mem _ h)
  have hown : s.vm.findClass RX1 = some m.cls := findClass_of_methodNamed B.named
  have hlocks := B.notSynchronized
  have hin : meth.name = "<init>" := (name_of_methodNamed B.named B.method).1
  subst hsz
  have hD := hD0.self (sz := s.heap.size)
  generalize hAe : va_A (dt_o1 h0) s.heap.size = A at hD ⊢
  have hA : ∀ q : Nat, s.heap.size ≤ q → A q := fun q h => by rw [← hAe]; exact Or.inr h
  obtain ⟨d, d1, d2⟩ := dt_arr_int (hts _ q63)
  obtain ⟨dz, d3, d4⟩ := dt_arr_bool (hts _ q185)
  have hK : va_K D vwCl [(d, .int), (dz, .boolean)] s := ⟨hK.1, fun k q h => by
    match k, h with
    | 0, h => cases h; exact ⟨d1, d2⟩
    | 1, h => cases h; exact ⟨d3, d4⟩
    | k + 2, h => simp at h⟩
  have E : dt_ev p s m ([.ref h0] : List Value).toArray meth c cX1_init 1 RX1 none D [(d, .int), (dz, .boolean)] := ⟨hx, hb, hml, hown, hts, hK, hlocks, hr⟩
  have hu : dt_hq D A s (dt_o1 h0) s.heap [] := ⟨hP, hD, va_S.rf, hA⟩
  have hl := lv_entry ([.ref h0]) (n := 1) (Nat.le_of_ble_eq_true rfl)
  rw [lg_entry_eq]
  generalize (lg_sl ([.ref h0]) ++ List.replicate (1 - (lg_sl ([.ref h0])).length) Slot.unset).toArray = ls at hl ⊢
  have hl : lv_has ls 1 [(0, .ref h0)] := hl
  refine lv_aload_n hx hb dX1_init_0 rfl (lv_at hl 0 rfl) ?_
  refine W.objInit hx hb hown (hts _ q153) (hts _ q27) (hts _ q28) rfl (by rw [hml]; exact hl.1) rfl dX1_init_1 (Nat.le_of_ble_eq_true rfl) (Nat.le_of_ble_eq_true rfl) ?_
  refine W.eq (g2 := F0 m 4 ls []) rfl ?_
  refine lv_aload_n hx hb dX1_init_4 rfl (lv_at hl 0 rfl) ?_
  refine lv_bipush (v := 16) hx hb dX1_init_5 (by decide) ?_
  refine dt_new_bool E hu 1 rfl (by decide) (by decide) dX1_init_7 (fun q1 H hu => ?_)
  refine dt_putF1 (ty := .array .boolean) E hu hin rfl 0 (by decide) q154 rfl rfl (by decide +kernel) rfl rfl (Nat.le_of_ble_eq_true rfl) dX1_init_9 (fun H locs hu => ?_)
  have hu : dt_hq D A s [(h0, .inr (1, [.ref q1, .null, .null, .null, .null, .null, .null, .null, .int 0, .null])), (q1, .inl (dz, 16, .inl (fun _ => 0)))] H locs := hu
  refine lv_aload_n hx hb dX1_init_12 rfl (lv_at hl 0 rfl) ?_
  refine lv_bipush (v := 16) hx hb dX1_init_13 (by decide) ?_
  refine dt_new_int E hu 0 rfl (by decide) (by decide) dX1_init_15 (fun q2 H hu => ?_)
  refine dt_putF1 (ty := .array .int) E hu hin rfl 1 (by decide) q155 rfl rfl (by decide +kernel) rfl rfl (Nat.le_of_ble_eq_true rfl) dX1_init_17 (fun H locs hu => ?_)
  have hu : dt_hq D A s [(h0, .inr (1, [.ref q1, .ref q2, .null, .null, .null, .null, .null, .null, .int 0, .null])), (q1, .inl (dz, 16, .inl (fun _ => 0))), (q2, .inl (d, 16, .inl (fun _ => 0)))] H locs := hu
  refine lv_aload_n hx hb dX1_init_20 rfl (lv_at hl 0 rfl) ?_
  refine lv_bipush (v := 16) hx hb dX1_init_21 (by decide) ?_
  refine dt_new_int E hu 0 rfl (by decide) (by decide) dX1_init_23 (fun q3 H hu => ?_)
  refine dt_putF1 (ty := .array .int) E hu hin rfl 2 (by decide) q156 rfl rfl (by decide +kernel) rfl rfl (Nat.le_of_ble_eq_true rfl) dX1_init_25 (fun H locs hu => ?_)
  have hu : dt_hq D A s [(h0, .inr (1, [.ref q1, .ref q2, .ref q3, .null, .null, .null, .null, .null, .int 0, .null])), (q1, .inl (dz, 16, .inl (fun _ => 0))), (q2, .inl (d, 16, .inl (fun _ => 0))), (q3, .inl (d, 16, .inl (fun _ => 0)))] H locs := hu
  refine lv_aload_n hx hb dX1_init_28 rfl (lv_at hl 0 rfl) ?_
  refine lv_bipush (v := 16) hx hb dX1_init_29 (by decide) ?_
  refine dt_new_int E hu 0 rfl (by decide) (by decide) dX1_init_31 (fun q4 H hu => ?_)
  refine dt_putF1 (ty := .array .int) E hu hin rfl 3 (by decide) q157 rfl rfl (by decide +kernel) rfl rfl (Nat.le_of_ble_eq_true rfl) dX1_init_33 (fun H locs hu => ?_)
  have hu : dt_hq D A s [(h0, .inr (1, [.ref q1, .ref q2, .ref q3, .ref q4, .null, .null, .null, .null, .int 0, .null])), (q1, .inl (dz, 16, .inl (fun _ => 0))), (q2, .inl (d, 16, .inl (fun _ => 0))), (q3, .inl (d, 16, .inl (fun _ => 0))), (q4, .inl (d, 16, .inl (fun _ => 0)))] H locs := hu
  refine lv_aload_n hx hb dX1_init_36 rfl (lv_at hl 0 rfl) ?_
  refine lv_bipush (v := 16) hx hb dX1_init_37 (by decide) ?_
  refine dt_new_int E hu 0 rfl (by decide) (by decide) dX1_init_39 (fun q5 H hu => ?_)
  refine dt_putF1 (ty := .array .int) E hu hin rfl 4 (by decide) q158 rfl rfl (by decide +kernel) rfl rfl (Nat.le_of_ble_eq_true rfl) dX1_init_41 (fun H locs hu => ?_)
  have hu : dt_hq D A s [(h0, .inr (1, [.ref q1, .ref q2, .ref q3, .ref q4, .ref q5, .null, .null, .null, .int 0, .null])), (q1, .inl (dz, 16, .inl (fun _ => 0))), (q2, .inl (d, 16, .inl (fun _ => 0))), (q3, .inl (d, 16, .inl (fun _ => 0))), (q4, .inl (d, 16, .inl (fun _ => 0))), (q5, .inl (d, 16, .inl (fun _ => 0)))] H locs := hu
  refine lv_aload_n hx hb dX1_init_44 rfl (lv_at hl 0 rfl) ?_
  refine lv_bipush (v := 16) hx hb dX1_init_45 (by decide) ?_
  refine dt_new_int E hu 0 rfl (by decide) (by decide) dX1_init_47 (fun q6 H hu => ?_)
  refine dt_putF1 (ty := .array .int) E hu hin rfl 5 (by decide) q159 rfl rfl (by decide +kernel) rfl rfl (Nat.le_of_ble_eq_true rfl) dX1_init_49 (fun H locs hu => ?_)
  have hu : dt_hq D A s [(h0, .inr (1, [.ref q1, .ref q2, .ref q3, .ref q4, .ref q5, .ref q6, .null, .null, .int 0, .null])), (q1, .inl (dz, 16, .inl (fun _ => 0))), (q2, .inl (d, 16, .inl (fun _ => 0))), (q3, .inl (d, 16, .inl (fun _ => 0))), (q4, .inl (d, 16, .inl (fun _ => 0))), (q5, .inl (d, 16, .inl (fun _ => 0))), (q6, .inl (d, 16, .inl (fun _ => 0)))] H locs := hu
  refine lv_aload_n hx hb dX1_init_52 rfl (lv_at hl 0 rfl) ?_
  refine lv_bipush (v := 16) hx hb dX1_init_53 (by decide) ?_
  refine dt_new_int E hu 0 rfl (by decide) (by decide) dX1_init_55 (fun q7 H hu => ?_)
  refine dt_putF1 (ty := .array .int) E hu hin rfl 6 (by decide) q160 rfl rfl (by decide +kernel) rfl rfl (Nat.le_of_ble_eq_true rfl) dX1_init_57 (fun H locs hu => ?_)
  have hu : dt_hq D A s [(h0, .inr (1, [.ref q1, .ref q2, .ref q3, .ref q4, .ref q5, .ref q6, .ref q7, .null, .int 0, .null])), (q1, .inl (dz, 16, .inl (fun _ => 0))), (q2, .inl (d, 16, .inl (fun _ => 0))), (q3, .inl (d, 16, .inl (fun _ => 0))), (q4, .inl (d, 16, .inl (fun _ => 0))), (q5, .inl (d, 16, .inl (fun _ => 0))), (q6, .inl (d, 16, .inl (fun _ => 0))), (q7, .inl (d, 16, .inl (fun _ => 0)))] H locs := hu
  refine lv_aload_n hx hb dX1_init_60 rfl (lv_at hl 0 rfl) ?_
  refine lv_bipush (v := 16) hx hb dX1_init_61 (by decide) ?_
  refine dt_new_int E hu 0 rfl (by decide) (by decide) dX1_init_63 (fun q8 H hu => ?_)
  refine dt_putF1 (ty := .array .int) E hu hin rfl 7 (by decide) q161 rfl rfl (by decide +kernel) rfl rfl (Nat.le_of_ble_eq_true rfl) dX1_init_65 (fun H locs hu => ?_)
  have hu : dt_hq D A s [(h0, .inr (1, [.ref q1, .ref q2, .ref q3, .ref q4, .ref q5, .ref q6, .ref q7, .ref q8, .int 0, .null])), (q1, .inl (dz, 16, .inl (fun _ => 0))), (q2, .inl (d, 16, .inl (fun _ => 0))), (q3, .inl (d, 16, .inl (fun _ => 0))), (q4, .inl (d, 16, .inl (fun _ => 0))), (q5, .inl (d, 16, .inl (fun _ => 0))), (q6, .inl (d, 16, .inl (fun _ => 0))), (q7, .inl (d, 16, .inl (fun _ => 0))), (q8, .inl (d, 16, .inl (fun _ => 0)))] H locs := hu
  refine lv_aload_n hx hb dX1_init_68 rfl (lv_at hl 0 rfl) ?_
  refine lv_iconst (v := 1) hx hb dX1_init_69 (by decide) ?_
  refine dt_put1 E hu rfl 8 (by decide) q162 rfl (by decide +kernel) (Nat.le_of_ble_eq_true rfl) dX1_init_70 (fun H locs hu => ?_)
  have hu : dt_hq D A s [(h0, .inr (1, [.ref q1, .ref q2, .ref q3, .ref q4, .ref q5, .ref q6, .ref q7, .ref q8, .int 1, .null])), (q1, .inl (dz, 16, .inl (fun _ => 0))), (q2, .inl (d, 16, .inl (fun _ => 0))), (q3, .inl (d, 16, .inl (fun _ => 0))), (q4, .inl (d, 16, .inl (fun _ => 0))), (q5, .inl (d, 16, .inl (fun _ => 0))), (q6, .inl (d, 16, .inl (fun _ => 0))), (q7, .inl (d, 16, .inl (fun _ => 0))), (q8, .inl (d, 16, .inl (fun _ => 0)))] H locs := hu
  refine lv_aload_n hx hb dX1_init_73 rfl (lv_at hl 0 rfl) ?_
  refine lv_bipush (v := 16) hx hb dX1_init_74 (by decide) ?_
  refine dt_new_bool E hu 1 rfl (by decide) (by decide) dX1_init_76 (fun q9 H hu => ?_)
  refine dt_putF1 (ty := .array .boolean) E hu hin rfl 9 (by decide) q163 rfl rfl (by decide +kernel) rfl rfl (Nat.le_of_ble_eq_true rfl) dX1_init_78 (fun H locs hu => ?_)
  have hu : dt_hq D A s [(h0, .inr (1, [.ref q1, .ref q2, .ref q3, .ref q4, .ref q5, .ref q6, .ref q7, .ref q8, .int 1, .ref q9])), (q1, .inl (dz, 16, .inl (fun _ => 0))), (q2, .inl (d, 16, .inl (fun _ => 0))), (q3, .inl (d, 16, .inl (fun _ => 0))), (q4, .inl (d, 16, .inl (fun _ => 0))), (q5, .inl (d, 16, .inl (fun _ => 0))), (q6, .inl (d, 16, .inl (fun _ => 0))), (q7, .inl (d, 16, .inl (fun _ => 0))), (q8, .inl (d, 16, .inl (fun _ => 0))), (q9, .inl (dz, 16, .inl (fun _ => 0)))] H locs := hu
  obtain ⟨a, ea⟩ : ∃ a : Nat → Nat, a = (fun k => match k with | 1 => q1 | 2 => q2 | 3 => q3 | 4 => q4 | 5 => q5 | 6 => q6 | 7 => q7 | 8 => q8 | _ => q9 : Nat → Nat) := ⟨_, rfl⟩
  have hu : dt_hq D A s (dt_w1 d dz h0 a ((fun _ => 0), (fun _ => 0), (fun _ => 0), (fun _ => 0), (fun _ => 0), (fun _ => 0), (fun _ => 0), (fun _ => 0), 1, (fun _ => 0))) H locs := by rw [ea]; exact hu
  refine lv_aload_n hx hb dX1_init_81 rfl (lv_at hl 0 rfl) ?_
  refine dt_g1_hd E hu dX1_init_82 ?_
  refine lv_iconst (v := nI 0) hx hb dX1_init_85 (by decide) ?_
  refine lv_iconst (v := 1) hx hb dX1_init_86 (by decide) ?_
  refine dt_s1_hd E hu (j := 0) (x := 1) rfl (by omega) dX1_init_87 (fun H locs hu => ?_)
  refine lv_aload_n hx hb dX1_init_88 rfl (lv_at hl 0 rfl) ?_
  refine dt_g1_rt E hu dX1_init_89 ?_
  refine lv_iconst (v := nI 0) hx hb dX1_init_92 (by decide) ?_
  refine lv_bipush (v := 7) hx hb dX1_init_93 (by decide) ?_
  refine dt_s1_rt E hu (j := 0) (x := 7) (by omega) dX1_init_95 (fun H locs hu => ?_)
  refine lv_aload_n hx hb dX1_init_96 rfl (lv_at hl 0 rfl) ?_
  refine dt_g1_par E hu dX1_init_97 ?_
  refine lv_iconst (v := nI 0) hx hb dX1_init_100 (by decide) ?_
  refine lv_iconst (v := (-1)) hx hb dX1_init_101 (by decide) ?_
  refine dt_s1_par E hu (j := 0) (x := -1) (by omega) dX1_init_102 (fun H locs hu => ?_)
  refine lv_aload_n hx hb dX1_init_103 rfl (lv_at hl 0 rfl) ?_
  refine dt_g1_sz E hu dX1_init_104 ?_
  refine lv_iconst (v := nI 0) hx hb dX1_init_107 (by decide) ?_
  refine lv_bipush (v := 64) hx hb dX1_init_108 (by decide) ?_
  refine dt_s1_sz E hu (j := 0) (x := 64) (by omega) dX1_init_110 (fun H locs hu => ?_)
  have hu : dt_hq D A s (dt_w1 d dz h0 a dt_i1) H locs := hu
  exact W.vret hx hb hr (fun t ht hW => ⟨⟨(d, dz, a), rfl, trivial, by rw [ht]; exact hu.1, va_K.moved hW.alike hK, hu.2.1⟩, hu.2.2.1.F ht⟩) hu.2.2.1.2.2 dX1_init_111
end
section
set_option maxRecDepth 100000
def R_law : String := "DeriveTreeLaw"
def lw_P (b : Addr) (xs : List Int32) (args : Array Value) (s : State) : Prop := args = #[.ref b] ∧ s.IntsAt b xs ∧ xs.length ≤ 256 ∧ (Jvm.Cond.and given_1 narrow_1).before args s = true
def lw_Q (_ : Array Value) (s : State) (o : Outcome) (t : State) : Prop := o = .returned (some (.int 1)) ∧ Framed s o t [] 600000 7290000
def lw_Z (below : List Frame) (a : Array Value) (s : State) : State → Prop := fun t => ∃ o, t.status = .running ∧ Ended t below o ∧ lw_Q a s o t
/-- the law's own end, with 1 on the stack, nothing written that was there before, its room as the claim has it -/
theorem lw_ret {p : Program} {l : Launch} {e : Env} {s : State} {m : MethodId} {below : List Frame} {meth : Method} {c : Code} {b : Nat} (hx : p.tables.exec = Jvm.exec) (hb : c.code = code) (hr : meth.sig.returnType = ret) (hlocks : meth.locks = false) {pc : Nat} {H : Heap} {ls : Array Slot} (hdg : decode code pc = .ok (.ireturn, 1)) : W p l e room_1 s m #[Value.ref b] below meth c H [] 600000 7290000 (lw_Z below #[Value.ref b] s) (F0 m pc ls [.int 1]) := by
  intro T hT X
  obtain ⟨fs, hret, hrun, hended, hW, hframe⟩ := X.leave (v := some (.int 1)) (hlocks := hlocks) (fun h => by rw [hr] at h; cases h)
  have hmeth' : T.vm.method? m = some meth := X.method'
  refine ⟨T.setFrames fs, ?_, .returned (some (.int 1)), hrun, hended, rfl, ⟨_, rfl⟩, hW, hframe⟩
  jvm_step X.here [X.here.top, hx, hb, hdg, hmeth', hr, ret, narrow_b1]
  (try refine ⟨rfl, ?_⟩); (try refine ⟨rfl, ?_⟩)
  first | (intro acts; rw [hret _ acts rfl rfl rfl]) | rw [hret _ _ rfl rfl rfl]
  exact Steps.refl _
/-- what holds at the law's entry: the machine, the code, the tables' words (any of lw_tbl by 'hts w (by decide +kernel)'), the script of L ints xs at the cell b, what the Statement gives of the start (any of its parts by flat_of_before) -/
def lw_At (p : Program) (s : State) (m : MethodId) (meth : Method) (c : Code) (b L : Nat) (xs : Nat → Int32) : Prop :=
  p.tables.exec = Jvm.exec ∧ c.code = code ∧ meth.sig.returnType = ret ∧ c.maxLocals = 4 ∧ s.vm.findClass R_law = some m.cls ∧ (∀ w ∈ lw_tbl, w.before #[Value.ref b] s = true) ∧ va_X b L xs s s.heap ∧ b < s.heap.size ∧ meth.locks = false ∧ (Jvm.Cond.and given_1 narrow_1).before #[Value.ref b] s = true
end
section
set_option maxRecDepth 100000
section DTL
variable {p : Program} {l : Launch} {e : Env} {R : Room} {s : State} {m : MethodId} {args : Array Value} {below : List Frame} {meth : Method} {c : Code} {H : Heap} {locs : List Loc} {cells slots : Nat} {Q : State → Prop}
variable {cc : ByteArray} {nL : Nat} {own : String} {rty : Option FieldType} {D : va_G} {tys : List (ClassId × FieldType)} {A : Nat → Prop} {ws : va_W} {pw : Nat} {ls : Array Slot} {rest st0 : List Value} {r : Int32} {d d1 dz : ClassId} {h0 h1 : Nat} {a a1 : Nat → Nat}
theorem dt_sld (E : dt_ev p s m args meth c cc nL own rty D tys) (h : dt_hq D A s ws H locs) {b L : Nat} {xs : Nat → Int32} (hX : va_X b L xs s s.heap) (hbl : b < s.heap.size) (hbA : ¬ A b) (hL : L ≤ 256) {j : Nat} (hj : j < L) (hdg : decode cc pw = .ok (.iaload, 1)) (kk : W p l e R s m args below meth c H locs cells slots Q (F0 m (pw + 1) ls (.int (xs j) :: rest))) : W p l e R s m args below meth c H locs cells slots Q (F0 m pw ls (.int (nI j) :: .ref b :: rest)) := by
  refine va_sld E.1 E.2.1 hX hbl hbA h.2.2.1 (vp_in_nI hj (by omega)) hdg ?_
  rw [nI_clamp (by omega)]
  exact kk
theorem dt_slen (E : dt_ev p s m args meth c cc nL own rty D tys) (h : dt_hq D A s ws H locs) {b L : Nat} {xs : Nat → Int32} (hX : va_X b L xs s s.heap) (hbl : b < s.heap.size) (hbA : ¬ A b) (hdg : decode cc pw = .ok (.arraylength, 1)) (kk : W p l e R s m args below meth c H locs cells slots Q (F0 m (pw + 1) ls (.int (nI L) :: rest))) : W p l e R s m args below meth c H locs cells slots Q (F0 m pw ls (.ref b :: rest)) :=
  va_slen E.1 E.2.1 hX hbl hbA h.2.2.1 hdg kk
theorem dt_L0 {σ σ' : dt_S0} {τ : dt_S1} (E : dt_ev p s m args meth c cc nL R_law rty D [(d, .int), (d1, .int), (dz, .boolean)]) (h : dt_hq D A s (dt_w0 d h0 a σ ++ dt_w1 d1 dz h1 a1 τ) H locs) {y : MethodName} {code' : ByteArray} {maxL idx : Nat} {rty' : Option FieldType} {rm : Room} {As : List Value} (M : dt_Ci l y code' maxL rty' rm [(d, .int)] (.ref h0 :: As) (dt_w0 d h0 a σ) (dt_w0 d h0 a σ') r D H.size) (hw : GoodIn lw_all (wsV R_law idx RX0 y (ws_ y code' maxL rty'))) {nA : Nat} (hnA : As.length = nA) (hd : y.cls = RX0 ∧ y.cls ≠ "java/lang/invoke/MethodHandle" ∧ y.cls ≠ "java/lang/invoke/VarHandle" ∧ (parseMethodDescriptor y.desc).map (fun d => d.parameters.length) = some nA) (hRm : rm.frames + 1 ≤ R.frames ∧ 8 + (maxL + 11) + rm.locals ≤ R.locals) (hrm : rm.cells = 0 ∧ rm.slots = 0) (hsz : ls.size = nL) (hst : st0 = As.reverse ++ .ref h0 :: rest) (hroom : (rest.map fun v => v.category).sum ≤ 8) (hdg : decode cc pw = .ok (.invokevirtual idx, 3)) (hf : cells ≤ R.cells ∧ slots ≤ R.slots)
    (kk : ∀ (H1 : Heap) (locs1 : List Loc), dt_hq D A s (dt_w1 d1 dz h1 a1 τ ++ dt_w0 d h0 a σ') H1 locs1 → W p l e R s m args below meth c H1 locs1 cells slots Q (F0 m (pw + 3) ls (.int r :: rest))) : W p l e R s m args below meth c H locs cells slots Q (F0 m pw ls st0) :=
  dt_call_i (wr := dt_w1 d1 dz h1 a1 τ) (ci := 0) E h M [0, 1, 2, 3, 4, 5, 6, 7, 8, 9] [10, 11, 12, 13, 14, 15, 16, 17, 18, 19] rfl rfl (by decide) rfl (by decide) (by decide) [0] rfl rfl rfl hw hnA hd hRm hrm hsz hst hroom hdg hf kk
theorem dt_L1 {σ σ' : dt_S1} {τ : dt_S0} (E : dt_ev p s m args meth c cc nL R_law rty D [(d, .int), (d1, .int), (dz, .boolean)]) (h : dt_hq D A s (dt_w1 d1 dz h1 a1 σ ++ dt_w0 d h0 a τ) H locs) {y : MethodName} {code' : ByteArray} {maxL idx : Nat} {rty' : Option FieldType} {rm : Room} {As : List Value} (M : dt_Ci l y code' maxL rty' rm [(d1, .int), (dz, .boolean)] (.ref h1 :: As) (dt_w1 d1 dz h1 a1 σ) (dt_w1 d1 dz h1 a1 σ') r D H.size) (hw : GoodIn lw_all (wsV R_law idx RX1 y (ws_ y code' maxL rty'))) {nA : Nat} (hnA : As.length = nA) (hd : y.cls = RX1 ∧ y.cls ≠ "java/lang/invoke/MethodHandle" ∧ y.cls ≠ "java/lang/invoke/VarHandle" ∧ (parseMethodDescriptor y.desc).map (fun d => d.parameters.length) = some nA) (hRm : rm.frames + 1 ≤ R.frames ∧ 8 + (maxL + 11) + rm.locals ≤ R.locals) (hrm : rm.cells = 0 ∧ rm.slots = 0) (hsz : ls.size = nL) (hst : st0 = As.reverse ++ .ref h1 :: rest) (hroom : (rest.map fun v => v.category).sum ≤ 8) (hdg : decode cc pw = .ok (.invokevirtual idx, 3)) (hf : cells ≤ R.cells ∧ slots ≤ R.slots)
    (kk : ∀ (H1 : Heap) (locs1 : List Loc), dt_hq D A s (dt_w0 d h0 a τ ++ dt_w1 d1 dz h1 a1 σ') H1 locs1 → W p l e R s m args below meth c H1 locs1 cells slots Q (F0 m (pw + 3) ls (.int r :: rest))) : W p l e R s m args below meth c H locs cells slots Q (F0 m pw ls st0) :=
  dt_call_i (wr := dt_w0 d h0 a τ) (ci := 1) E h M [0, 1, 2, 3, 4, 5, 6, 7, 8, 9] [10, 11, 12, 13, 14, 15, 16, 17, 18, 19] rfl rfl (by decide) rfl (by decide) (by decide) [1, 2] rfl rfl rfl hw hnA hd hRm hrm hsz hst hroom hdg hf kk
theorem dt_L0_split {made : Int32} {n : Nat} {st sz mr kt nb sl dp pc rt : dt_F} {x y v : Int32} {τ : dt_S1} (E : dt_ev p s m args meth c cc nL R_law rty D [(d, .int), (d1, .int), (dz, .boolean)]) (h : dt_hq D A s (dt_w0 d h0 a (made, n, st, sz, mr, kt, nb, sl, dp, pc, rt) ++ dt_w1 d1 dz h1 a1 τ) H locs) (hW : dt_W0 (made, n, st, sz, mr, kt, nb, sl, dp, pc, rt)) (hR : (dt_rm 2 49).frames + 1 ≤ R.frames ∧ 8 + (6 + 11) + (dt_rm 2 49).locals ≤ R.locals) (hsz : ls.size = nL) (hroom : (rest.map fun v => v.category).sum ≤ 8) (hf : cells ≤ R.cells ∧ slots ≤ R.slots) (hdg : decode cc pw = .ok (.invokevirtual 13, 3)) (kk : ∀ (H1 : Heap) (locs1 : List Loc), dt_hq D A s (dt_w1 d1 dz h1 a1 τ ++ dt_w0 d h0 a (dt_split (made, n, st, sz, mr, kt, nb, sl, dp, pc, rt) x y v).2) H1 locs1 → W p l e R s m args below meth c H1 locs1 cells slots Q (F0 m (pw + 3) ls (.int ((dt_split (made, n, st, sz, mr, kt, nb, sl, dp, pc, rt) x y v).1) :: rest))) : W p l e R s m args below meth c H locs cells slots Q (F0 m pw ls (.int v :: .int y :: .int x :: .ref h0 :: rest)) :=
  dt_L0 (As := [.int x, .int y, .int v]) (nA := 3) E h (m0_split l D d h0 a H.size made n st sz mr kt nb sl dp pc rt x y v hW) (lw_V q64 q65 q66 q19 q67) rfl (by decide +kernel) hR ⟨rfl, rfl⟩ hsz rfl hroom hdg hf kk
theorem dt_L0_copy {made : Int32} {n : Nat} {st sz mr kt nb sl dp pc rt : dt_F} {x y v : Int32} {τ : dt_S1} (E : dt_ev p s m args meth c cc nL R_law rty D [(d, .int), (d1, .int), (dz, .boolean)]) (h : dt_hq D A s (dt_w0 d h0 a (made, n, st, sz, mr, kt, nb, sl, dp, pc, rt) ++ dt_w1 d1 dz h1 a1 τ) H locs) (hW : dt_W0 (made, n, st, sz, mr, kt, nb, sl, dp, pc, rt)) (hR : (dt_rm 2 49).frames + 1 ≤ R.frames ∧ 8 + (4 + 11) + (dt_rm 2 49).locals ≤ R.locals) (hsz : ls.size = nL) (hroom : (rest.map fun v => v.category).sum ≤ 8) (hf : cells ≤ R.cells ∧ slots ≤ R.slots) (hdg : decode cc pw = .ok (.invokevirtual 18, 3)) (kk : ∀ (H1 : Heap) (locs1 : List Loc), dt_hq D A s (dt_w1 d1 dz h1 a1 τ ++ dt_w0 d h0 a (dt_copy (made, n, st, sz, mr, kt, nb, sl, dp, pc, rt) x y v).2) H1 locs1 → W p l e R s m args below meth c H1 locs1 cells slots Q (F0 m (pw + 3) ls (.int ((dt_copy (made, n, st, sz, mr, kt, nb, sl, dp, pc, rt) x y v).1) :: rest))) : W p l e R s m args below meth c H locs cells slots Q (F0 m pw ls (.int v :: .int y :: .int x :: .ref h0 :: rest)) :=
  dt_L0 (As := [.int x, .int y, .int v]) (nA := 3) E h (m0_copy l D d h0 a H.size made n st sz mr kt nb sl dp pc rt x y v hW) (lw_V q88 q89 q90 q19 q91) rfl (by decide +kernel) hR ⟨rfl, rfl⟩ hsz rfl hroom hdg hf kk
theorem dt_L0_move {made : Int32} {n : Nat} {st sz mr kt nb sl dp pc rt : dt_F} {x y : Int32} {τ : dt_S1} (E : dt_ev p s m args meth c cc nL R_law rty D [(d, .int), (d1, .int), (dz, .boolean)]) (h : dt_hq D A s (dt_w0 d h0 a (made, n, st, sz, mr, kt, nb, sl, dp, pc, rt) ++ dt_w1 d1 dz h1 a1 τ) H locs) (hW : dt_W0 (made, n, st, sz, mr, kt, nb, sl, dp, pc, rt)) (hR : (dt_rm 1 23).frames + 1 ≤ R.frames ∧ 8 + (4 + 11) + (dt_rm 1 23).locals ≤ R.locals) (hsz : ls.size = nL) (hroom : (rest.map fun v => v.category).sum ≤ 8) (hf : cells ≤ R.cells ∧ slots ≤ R.slots) (hdg : decode cc pw = .ok (.invokevirtual 22, 3)) (kk : ∀ (H1 : Heap) (locs1 : List Loc), dt_hq D A s (dt_w1 d1 dz h1 a1 τ ++ dt_w0 d h0 a (dt_move (made, n, st, sz, mr, kt, nb, sl, dp, pc, rt) x y).2) H1 locs1 → W p l e R s m args below meth c H1 locs1 cells slots Q (F0 m (pw + 3) ls (.int ((dt_move (made, n, st, sz, mr, kt, nb, sl, dp, pc, rt) x y).1) :: rest))) : W p l e R s m args below meth c H locs cells slots Q (F0 m pw ls (.int y :: .int x :: .ref h0 :: rest)) :=
  dt_L0 (As := [.int x, .int y]) (nA := 2) E h (m0_move l D d h0 a H.size made n st sz mr kt nb sl dp pc rt x y hW) (lw_V q92 q93 q94 q19 q95) rfl (by decide +kernel) hR ⟨rfl, rfl⟩ hsz rfl hroom hdg hf kk
theorem dt_L0_delete {made : Int32} {n : Nat} {st sz mr kt nb sl dp pc rt : dt_F} {x : Int32} {τ : dt_S1} (E : dt_ev p s m args meth c cc nL R_law rty D [(d, .int), (d1, .int), (dz, .boolean)]) (h : dt_hq D A s (dt_w0 d h0 a (made, n, st, sz, mr, kt, nb, sl, dp, pc, rt) ++ dt_w1 d1 dz h1 a1 τ) H locs) (hW : dt_W0 (made, n, st, sz, mr, kt, nb, sl, dp, pc, rt)) (hR : (dt_rm 2 44).frames + 1 ≤ R.frames ∧ 8 + (7 + 11) + (dt_rm 2 44).locals ≤ R.locals) (hsz : ls.size = nL) (hroom : (rest.map fun v => v.category).sum ≤ 8) (hf : cells ≤ R.cells ∧ slots ≤ R.slots) (hdg : decode cc pw = .ok (.invokevirtual 27, 3)) (kk : ∀ (H1 : Heap) (locs1 : List Loc), dt_hq D A s (dt_w1 d1 dz h1 a1 τ ++ dt_w0 d h0 a (dt_delete (made, n, st, sz, mr, kt, nb, sl, dp, pc, rt) x).2) H1 locs1 → W p l e R s m args below meth c H1 locs1 cells slots Q (F0 m (pw + 3) ls (.int ((dt_delete (made, n, st, sz, mr, kt, nb, sl, dp, pc, rt) x).1) :: rest))) : W p l e R s m args below meth c H locs cells slots Q (F0 m pw ls (.int x :: .ref h0 :: rest)) :=
  dt_L0 (As := [.int x]) (nA := 1) E h (m0_delete l D d h0 a H.size made n st sz mr kt nb sl dp pc rt x hW) (lw_V q96 q97 q98 q19 q99) rfl (by decide +kernel) hR ⟨rfl, rfl⟩ hsz rfl hroom hdg hf kk
theorem dt_L0_revoke {made : Int32} {n : Nat} {st sz mr kt nb sl dp pc rt : dt_F} {x : Int32} {τ : dt_S1} (E : dt_ev p s m args meth c cc nL R_law rty D [(d, .int), (d1, .int), (dz, .boolean)]) (h : dt_hq D A s (dt_w0 d h0 a (made, n, st, sz, mr, kt, nb, sl, dp, pc, rt) ++ dt_w1 d1 dz h1 a1 τ) H locs) (hW : dt_W0 (made, n, st, sz, mr, kt, nb, sl, dp, pc, rt)) (hR : (dt_rm 2 44).frames + 1 ≤ R.frames ∧ 8 + (5 + 11) + (dt_rm 2 44).locals ≤ R.locals) (hsz : ls.size = nL) (hroom : (rest.map fun v => v.category).sum ≤ 8) (hf : cells ≤ R.cells ∧ slots ≤ R.slots) (hdg : decode cc pw = .ok (.invokevirtual 32, 3)) (kk : ∀ (H1 : Heap) (locs1 : List Loc), dt_hq D A s (dt_w1 d1 dz h1 a1 τ ++ dt_w0 d h0 a (dt_revoke (made, n, st, sz, mr, kt, nb, sl, dp, pc, rt) x).2) H1 locs1 → W p l e R s m args below meth c H1 locs1 cells slots Q (F0 m (pw + 3) ls (.int ((dt_revoke (made, n, st, sz, mr, kt, nb, sl, dp, pc, rt) x).1) :: rest))) : W p l e R s m args below meth c H locs cells slots Q (F0 m pw ls (.int x :: .ref h0 :: rest)) :=
  dt_L0 (As := [.int x]) (nA := 1) E h (m0_revoke l D d h0 a H.size made n st sz mr kt nb sl dp pc rt x hW) (lw_V q120 q121 q122 q19 q123) rfl (by decide +kernel) hR ⟨rfl, rfl⟩ hsz rfl hroom hdg hf kk
theorem dt_L0_piece {made : Int32} {n : Nat} {st sz mr kt nb sl dp pc rt : dt_F} {x : Int32} {τ : dt_S1} (E : dt_ev p s m args meth c cc nL R_law rty D [(d, .int), (d1, .int), (dz, .boolean)]) (h : dt_hq D A s (dt_w0 d h0 a (made, n, st, sz, mr, kt, nb, sl, dp, pc, rt) ++ dt_w1 d1 dz h1 a1 τ) H locs) (hW : dt_W0 (made, n, st, sz, mr, kt, nb, sl, dp, pc, rt)) (hR : (dt_rm 1 21).frames + 1 ≤ R.frames ∧ 8 + (2 + 11) + (dt_rm 1 21).locals ≤ R.locals) (hsz : ls.size = nL) (hroom : (rest.map fun v => v.category).sum ≤ 8) (hf : cells ≤ R.cells ∧ slots ≤ R.slots) (hdg : decode cc pw = .ok (.invokevirtual 36, 3)) (kk : ∀ (H1 : Heap) (locs1 : List Loc), dt_hq D A s (dt_w1 d1 dz h1 a1 τ ++ dt_w0 d h0 a (made, n, st, sz, mr, kt, nb, sl, dp, pc, rt)) H1 locs1 → W p l e R s m args below meth c H1 locs1 cells slots Q (F0 m (pw + 3) ls (.int (dt_piece (made, n, st, sz, mr, kt, nb, sl, dp, pc, rt) x) :: rest))) : W p l e R s m args below meth c H locs cells slots Q (F0 m pw ls (.int x :: .ref h0 :: rest)) :=
  dt_L0 (As := [.int x]) (nA := 1) E h (m0_piece l D d h0 a H.size made n st sz mr kt nb sl dp pc rt x hW) (lw_V q124 q125 q126 q19 q127) rfl (by decide +kernel) hR ⟨rfl, rfl⟩ hsz rfl hroom hdg hf kk
theorem dt_L0_rights {made : Int32} {n : Nat} {st sz mr kt nb sl dp pc rt : dt_F} {x : Int32} {τ : dt_S1} (E : dt_ev p s m args meth c cc nL R_law rty D [(d, .int), (d1, .int), (dz, .boolean)]) (h : dt_hq D A s (dt_w0 d h0 a (made, n, st, sz, mr, kt, nb, sl, dp, pc, rt) ++ dt_w1 d1 dz h1 a1 τ) H locs) (hW : dt_W0 (made, n, st, sz, mr, kt, nb, sl, dp, pc, rt)) (hR : (dt_rm 1 21).frames + 1 ≤ R.frames ∧ 8 + (2 + 11) + (dt_rm 1 21).locals ≤ R.locals) (hsz : ls.size = nL) (hroom : (rest.map fun v => v.category).sum ≤ 8) (hf : cells ≤ R.cells ∧ slots ≤ R.slots) (hdg : decode cc pw = .ok (.invokevirtual 40, 3)) (kk : ∀ (H1 : Heap) (locs1 : List Loc), dt_hq D A s (dt_w1 d1 dz h1 a1 τ ++ dt_w0 d h0 a (made, n, st, sz, mr, kt, nb, sl, dp, pc, rt)) H1 locs1 → W p l e R s m args below meth c H1 locs1 cells slots Q (F0 m (pw + 3) ls (.int (dt_rights (made, n, st, sz, mr, kt, nb, sl, dp, pc, rt) x) :: rest))) : W p l e R s m args below meth c H locs cells slots Q (F0 m pw ls (.int x :: .ref h0 :: rest)) :=
  dt_L0 (As := [.int x]) (nA := 1) E h (m0_rights l D d h0 a H.size made n st sz mr kt nb sl dp pc rt x hW) (lw_V q128 q129 q130 q19 q131) rfl (by decide +kernel) hR ⟨rfl, rfl⟩ hsz rfl hroom hdg hf kk
theorem dt_L0_room {made : Int32} {n : Nat} {st sz mr kt nb sl dp pc rt : dt_F} {x : Int32} {τ : dt_S1} (E : dt_ev p s m args meth c cc nL R_law rty D [(d, .int), (d1, .int), (dz, .boolean)]) (h : dt_hq D A s (dt_w0 d h0 a (made, n, st, sz, mr, kt, nb, sl, dp, pc, rt) ++ dt_w1 d1 dz h1 a1 τ) H locs) (hW : dt_W0 (made, n, st, sz, mr, kt, nb, sl, dp, pc, rt)) (hR : (dt_rm 1 21).frames + 1 ≤ R.frames ∧ 8 + (2 + 11) + (dt_rm 1 21).locals ≤ R.locals) (hsz : ls.size = nL) (hroom : (rest.map fun v => v.category).sum ≤ 8) (hf : cells ≤ R.cells ∧ slots ≤ R.slots) (hdg : decode cc pw = .ok (.invokevirtual 44, 3)) (kk : ∀ (H1 : Heap) (locs1 : List Loc), dt_hq D A s (dt_w1 d1 dz h1 a1 τ ++ dt_w0 d h0 a (made, n, st, sz, mr, kt, nb, sl, dp, pc, rt)) H1 locs1 → W p l e R s m args below meth c H1 locs1 cells slots Q (F0 m (pw + 3) ls (.int (dt_room (made, n, st, sz, mr, kt, nb, sl, dp, pc, rt) x) :: rest))) : W p l e R s m args below meth c H locs cells slots Q (F0 m pw ls (.int x :: .ref h0 :: rest)) :=
  dt_L0 (As := [.int x]) (nA := 1) E h (m0_room l D d h0 a H.size made n st sz mr kt nb sl dp pc rt x hW) (lw_V q132 q133 q134 q19 q135) rfl (by decide +kernel) hR ⟨rfl, rfl⟩ hsz rfl hroom hdg hf kk
theorem dt_L0_descends {made : Int32} {n : Nat} {st sz mr kt nb sl dp pc rt : dt_F} {x y : Int32} {τ : dt_S1} (E : dt_ev p s m args meth c cc nL R_law rty D [(d, .int), (d1, .int), (dz, .boolean)]) (h : dt_hq D A s (dt_w0 d h0 a (made, n, st, sz, mr, kt, nb, sl, dp, pc, rt) ++ dt_w1 d1 dz h1 a1 τ) H locs) (hW : dt_W0 (made, n, st, sz, mr, kt, nb, sl, dp, pc, rt)) (hR : (dt_rm 1 23).frames + 1 ≤ R.frames ∧ 8 + (5 + 11) + (dt_rm 1 23).locals ≤ R.locals) (hsz : ls.size = nL) (hroom : (rest.map fun v => v.category).sum ≤ 8) (hf : cells ≤ R.cells ∧ slots ≤ R.slots) (hdg : decode cc pw = .ok (.invokevirtual 48, 3)) (kk : ∀ (H1 : Heap) (locs1 : List Loc), dt_hq D A s (dt_w1 d1 dz h1 a1 τ ++ dt_w0 d h0 a (made, n, st, sz, mr, kt, nb, sl, dp, pc, rt)) H1 locs1 → W p l e R s m args below meth c H1 locs1 cells slots Q (F0 m (pw + 3) ls (.int (dt_descends (made, n, st, sz, mr, kt, nb, sl, dp, pc, rt) x y) :: rest))) : W p l e R s m args below meth c H locs cells slots Q (F0 m pw ls (.int y :: .int x :: .ref h0 :: rest)) :=
  dt_L0 (As := [.int x, .int y]) (nA := 2) E h (m0_descends l D d h0 a H.size made n st sz mr kt nb sl dp pc rt x y hW) (lw_V q136 q137 q138 q19 q139) rfl (by decide +kernel) hR ⟨rfl, rfl⟩ hsz rfl hroom hdg hf kk
theorem dt_L0_descendants {made : Int32} {n : Nat} {st sz mr kt nb sl dp pc rt : dt_F} {x : Int32} {τ : dt_S1} (E : dt_ev p s m args meth c cc nL R_law rty D [(d, .int), (d1, .int), (dz, .boolean)]) (h : dt_hq D A s (dt_w0 d h0 a (made, n, st, sz, mr, kt, nb, sl, dp, pc, rt) ++ dt_w1 d1 dz h1 a1 τ) H locs) (hW : dt_W0 (made, n, st, sz, mr, kt, nb, sl, dp, pc, rt)) (hR : (dt_rm 1 23).frames + 1 ≤ R.frames ∧ 8 + (3 + 11) + (dt_rm 1 23).locals ≤ R.locals) (hsz : ls.size = nL) (hroom : (rest.map fun v => v.category).sum ≤ 8) (hf : cells ≤ R.cells ∧ slots ≤ R.slots) (hdg : decode cc pw = .ok (.invokevirtual 52, 3)) (kk : ∀ (H1 : Heap) (locs1 : List Loc), dt_hq D A s (dt_w1 d1 dz h1 a1 τ ++ dt_w0 d h0 a (made, n, st, sz, mr, kt, nb, sl, dp, pc, rt)) H1 locs1 → W p l e R s m args below meth c H1 locs1 cells slots Q (F0 m (pw + 3) ls (.int (dt_descendants (made, n, st, sz, mr, kt, nb, sl, dp, pc, rt) x) :: rest))) : W p l e R s m args below meth c H locs cells slots Q (F0 m pw ls (.int x :: .ref h0 :: rest)) :=
  dt_L0 (As := [.int x]) (nA := 1) E h (m0_descendants l D d h0 a H.size made n st sz mr kt nb sl dp pc rt x hW) (lw_V q140 q141 q142 q19 q143) rfl (by decide +kernel) hR ⟨rfl, rfl⟩ hsz rfl hroom hdg hf kk
theorem dt_L0_keys {made : Int32} {n : Nat} {st sz mr kt nb sl dp pc rt : dt_F} {τ : dt_S1} (E : dt_ev p s m args meth c cc nL R_law rty D [(d, .int), (d1, .int), (dz, .boolean)]) (h : dt_hq D A s (dt_w0 d h0 a (made, n, st, sz, mr, kt, nb, sl, dp, pc, rt) ++ dt_w1 d1 dz h1 a1 τ) H locs) (hR : (dt_rm 0 0).frames + 1 ≤ R.frames ∧ 8 + (1 + 11) + (dt_rm 0 0).locals ≤ R.locals) (hsz : ls.size = nL) (hroom : (rest.map fun v => v.category).sum ≤ 8) (hf : cells ≤ R.cells ∧ slots ≤ R.slots) (hdg : decode cc pw = .ok (.invokevirtual 56, 3)) (kk : ∀ (H1 : Heap) (locs1 : List Loc), dt_hq D A s (dt_w1 d1 dz h1 a1 τ ++ dt_w0 d h0 a (made, n, st, sz, mr, kt, nb, sl, dp, pc, rt)) H1 locs1 → W p l e R s m args below meth c H1 locs1 cells slots Q (F0 m (pw + 3) ls (.int (dt_keys (made, n, st, sz, mr, kt, nb, sl, dp, pc, rt)) :: rest))) : W p l e R s m args below meth c H locs cells slots Q (F0 m pw ls (.ref h0 :: rest)) :=
  dt_L0 (As := []) (nA := 0) E h (m0_keys l D d h0 a H.size made n st sz mr kt nb sl dp pc rt ) (lw_V q144 q145 q146 q19 q147) rfl (by decide +kernel) hR ⟨rfl, rfl⟩ hsz rfl hroom hdg hf kk
theorem dt_L1_split {made : Int32} {hd pc rt par st sz mr nb gg : dt_F} {x y v : Int32} {τ : dt_S0} (E : dt_ev p s m args meth c cc nL R_law rty D [(d, .int), (d1, .int), (dz, .boolean)]) (h : dt_hq D A s (dt_w1 d1 dz h1 a1 (hd, pc, rt, par, st, sz, mr, nb, made, gg) ++ dt_w0 d h0 a τ) H locs) (hW : dt_W1 (hd, pc, rt, par, st, sz, mr, nb, made, gg)) (hR : (dt_rm 1 24).frames + 1 ≤ R.frames ∧ 8 + (6 + 11) + (dt_rm 1 24).locals ≤ R.locals) (hsz : ls.size = nL) (hroom : (rest.map fun v => v.category).sum ≤ 8) (hf : cells ≤ R.cells ∧ slots ≤ R.slots) (hdg : decode cc pw = .ok (.invokevirtual 17, 3)) (kk : ∀ (H1 : Heap) (locs1 : List Loc), dt_hq D A s (dt_w0 d h0 a τ ++ dt_w1 d1 dz h1 a1 (dm_split (hd, pc, rt, par, st, sz, mr, nb, made, gg) x y v).2) H1 locs1 → W p l e R s m args below meth c H1 locs1 cells slots Q (F0 m (pw + 3) ls (.int ((dm_split (hd, pc, rt, par, st, sz, mr, nb, made, gg) x y v).1) :: rest))) : W p l e R s m args below meth c H locs cells slots Q (F0 m pw ls (.int v :: .int y :: .int x :: .ref h1 :: rest)) :=
  dt_L1 (As := [.int x, .int y, .int v]) (nA := 3) E h (m1_split l D d1 dz h1 a1 H.size made hd pc rt par st sz mr nb gg x y v hW) (lw_V q186 q187 q188 q20 q189) rfl (by decide +kernel) hR ⟨rfl, rfl⟩ hsz rfl hroom hdg hf kk
theorem dt_L1_copy {made : Int32} {hd pc rt par st sz mr nb gg : dt_F} {x y v : Int32} {τ : dt_S0} (E : dt_ev p s m args meth c cc nL R_law rty D [(d, .int), (d1, .int), (dz, .boolean)]) (h : dt_hq D A s (dt_w1 d1 dz h1 a1 (hd, pc, rt, par, st, sz, mr, nb, made, gg) ++ dt_w0 d h0 a τ) H locs) (hW : dt_W1 (hd, pc, rt, par, st, sz, mr, nb, made, gg)) (hR : (dt_rm 1 24).frames + 1 ≤ R.frames ∧ 8 + (4 + 11) + (dt_rm 1 24).locals ≤ R.locals) (hsz : ls.size = nL) (hroom : (rest.map fun v => v.category).sum ≤ 8) (hf : cells ≤ R.cells ∧ slots ≤ R.slots) (hdg : decode cc pw = .ok (.invokevirtual 21, 3)) (kk : ∀ (H1 : Heap) (locs1 : List Loc), dt_hq D A s (dt_w0 d h0 a τ ++ dt_w1 d1 dz h1 a1 (dm_copy (hd, pc, rt, par, st, sz, mr, nb, made, gg) x y v).2) H1 locs1 → W p l e R s m args below meth c H1 locs1 cells slots Q (F0 m (pw + 3) ls (.int ((dm_copy (hd, pc, rt, par, st, sz, mr, nb, made, gg) x y v).1) :: rest))) : W p l e R s m args below meth c H locs cells slots Q (F0 m pw ls (.int v :: .int y :: .int x :: .ref h1 :: rest)) :=
  dt_L1 (As := [.int x, .int y, .int v]) (nA := 3) E h (m1_copy l D d1 dz h1 a1 H.size made hd pc rt par st sz mr nb gg x y v hW) (lw_V q206 q207 q208 q20 q209) rfl (by decide +kernel) hR ⟨rfl, rfl⟩ hsz rfl hroom hdg hf kk
theorem dt_L1_move {made : Int32} {hd pc rt par st sz mr nb gg : dt_F} {x y : Int32} {τ : dt_S0} (E : dt_ev p s m args meth c cc nL R_law rty D [(d, .int), (d1, .int), (dz, .boolean)]) (h : dt_hq D A s (dt_w1 d1 dz h1 a1 (hd, pc, rt, par, st, sz, mr, nb, made, gg) ++ dt_w0 d h0 a τ) H locs) (hW : dt_W1 (hd, pc, rt, par, st, sz, mr, nb, made, gg)) (hR : (dt_rm 1 24).frames + 1 ≤ R.frames ∧ 8 + (3 + 11) + (dt_rm 1 24).locals ≤ R.locals) (hsz : ls.size = nL) (hroom : (rest.map fun v => v.category).sum ≤ 8) (hf : cells ≤ R.cells ∧ slots ≤ R.slots) (hdg : decode cc pw = .ok (.invokevirtual 26, 3)) (kk : ∀ (H1 : Heap) (locs1 : List Loc), dt_hq D A s (dt_w0 d h0 a τ ++ dt_w1 d1 dz h1 a1 (dm_move (hd, pc, rt, par, st, sz, mr, nb, made, gg) x y).2) H1 locs1 → W p l e R s m args below meth c H1 locs1 cells slots Q (F0 m (pw + 3) ls (.int ((dm_move (hd, pc, rt, par, st, sz, mr, nb, made, gg) x y).1) :: rest))) : W p l e R s m args below meth c H locs cells slots Q (F0 m pw ls (.int y :: .int x :: .ref h1 :: rest)) :=
  dt_L1 (As := [.int x, .int y]) (nA := 2) E h (m1_move l D d1 dz h1 a1 H.size made hd pc rt par st sz mr nb gg x y hW) (lw_V q210 q211 q212 q20 q213) rfl (by decide +kernel) hR ⟨rfl, rfl⟩ hsz rfl hroom hdg hf kk
theorem dt_L1_delete {made : Int32} {hd pc rt par st sz mr nb gg : dt_F} {x : Int32} {τ : dt_S0} (E : dt_ev p s m args meth c cc nL R_law rty D [(d, .int), (d1, .int), (dz, .boolean)]) (h : dt_hq D A s (dt_w1 d1 dz h1 a1 (hd, pc, rt, par, st, sz, mr, nb, made, gg) ++ dt_w0 d h0 a τ) H locs) (hW : dt_W1 (hd, pc, rt, par, st, sz, mr, nb, made, gg)) (hR : (dt_rm 2 45).frames + 1 ≤ R.frames ∧ 8 + (3 + 11) + (dt_rm 2 45).locals ≤ R.locals) (hsz : ls.size = nL) (hroom : (rest.map fun v => v.category).sum ≤ 8) (hf : cells ≤ R.cells ∧ slots ≤ R.slots) (hdg : decode cc pw = .ok (.invokevirtual 31, 3)) (kk : ∀ (H1 : Heap) (locs1 : List Loc), dt_hq D A s (dt_w0 d h0 a τ ++ dt_w1 d1 dz h1 a1 (dm_delete (hd, pc, rt, par, st, sz, mr, nb, made, gg) x).2) H1 locs1 → W p l e R s m args below meth c H1 locs1 cells slots Q (F0 m (pw + 3) ls (.int ((dm_delete (hd, pc, rt, par, st, sz, mr, nb, made, gg) x).1) :: rest))) : W p l e R s m args below meth c H locs cells slots Q (F0 m pw ls (.int x :: .ref h1 :: rest)) :=
  dt_L1 (As := [.int x]) (nA := 1) E h (m1_delete l D d1 dz h1 a1 H.size made hd pc rt par st sz mr nb gg x hW) (lw_V q218 q219 q220 q20 q221) rfl (by decide +kernel) hR ⟨rfl, rfl⟩ hsz rfl hroom hdg hf kk
theorem dt_L1_revoke {made : Int32} {hd pc rt par st sz mr nb gg : dt_F} {x : Int32} {τ : dt_S0} (E : dt_ev p s m args meth c cc nL R_law rty D [(d, .int), (d1, .int), (dz, .boolean)]) (h : dt_hq D A s (dt_w1 d1 dz h1 a1 (hd, pc, rt, par, st, sz, mr, nb, made, gg) ++ dt_w0 d h0 a τ) H locs) (hW : dt_W1 (hd, pc, rt, par, st, sz, mr, nb, made, gg)) (hR : (dt_rm 2 45).frames + 1 ≤ R.frames ∧ 8 + (4 + 11) + (dt_rm 2 45).locals ≤ R.locals) (hsz : ls.size = nL) (hroom : (rest.map fun v => v.category).sum ≤ 8) (hf : cells ≤ R.cells ∧ slots ≤ R.slots) (hdg : decode cc pw = .ok (.invokevirtual 35, 3)) (kk : ∀ (H1 : Heap) (locs1 : List Loc), dt_hq D A s (dt_w0 d h0 a τ ++ dt_w1 d1 dz h1 a1 (dm_revoke (hd, pc, rt, par, st, sz, mr, nb, made, gg) x).2) H1 locs1 → W p l e R s m args below meth c H1 locs1 cells slots Q (F0 m (pw + 3) ls (.int ((dm_revoke (hd, pc, rt, par, st, sz, mr, nb, made, gg) x).1) :: rest))) : W p l e R s m args below meth c H locs cells slots Q (F0 m pw ls (.int x :: .ref h1 :: rest)) :=
  dt_L1 (As := [.int x]) (nA := 1) E h (m1_revoke l D d1 dz h1 a1 H.size made hd pc rt par st sz mr nb gg x hW) (lw_V q230 q231 q232 q20 q233) rfl (by decide +kernel) hR ⟨rfl, rfl⟩ hsz rfl hroom hdg hf kk
theorem dt_L1_piece {made : Int32} {hd pc rt par st sz mr nb gg : dt_F} {x : Int32} {τ : dt_S0} (E : dt_ev p s m args meth c cc nL R_law rty D [(d, .int), (d1, .int), (dz, .boolean)]) (h : dt_hq D A s (dt_w1 d1 dz h1 a1 (hd, pc, rt, par, st, sz, mr, nb, made, gg) ++ dt_w0 d h0 a τ) H locs) (hW : dt_W1 (hd, pc, rt, par, st, sz, mr, nb, made, gg)) (hR : (dt_rm 1 21).frames + 1 ≤ R.frames ∧ 8 + (2 + 11) + (dt_rm 1 21).locals ≤ R.locals) (hsz : ls.size = nL) (hroom : (rest.map fun v => v.category).sum ≤ 8) (hf : cells ≤ R.cells ∧ slots ≤ R.slots) (hdg : decode cc pw = .ok (.invokevirtual 39, 3)) (kk : ∀ (H1 : Heap) (locs1 : List Loc), dt_hq D A s (dt_w0 d h0 a τ ++ dt_w1 d1 dz h1 a1 (hd, pc, rt, par, st, sz, mr, nb, made, gg)) H1 locs1 → W p l e R s m args below meth c H1 locs1 cells slots Q (F0 m (pw + 3) ls (.int (dm_piece (hd, pc, rt, par, st, sz, mr, nb, made, gg) x) :: rest))) : W p l e R s m args below meth c H locs cells slots Q (F0 m pw ls (.int x :: .ref h1 :: rest)) :=
  dt_L1 (As := [.int x]) (nA := 1) E h (m1_piece l D d1 dz h1 a1 H.size made hd pc rt par st sz mr nb gg x hW) (lw_V q238 q239 q240 q20 q241) rfl (by decide +kernel) hR ⟨rfl, rfl⟩ hsz rfl hroom hdg hf kk
theorem dt_L1_rights {made : Int32} {hd pc rt par st sz mr nb gg : dt_F} {x : Int32} {τ : dt_S0} (E : dt_ev p s m args meth c cc nL R_law rty D [(d, .int), (d1, .int), (dz, .boolean)]) (h : dt_hq D A s (dt_w1 d1 dz h1 a1 (hd, pc, rt, par, st, sz, mr, nb, made, gg) ++ dt_w0 d h0 a τ) H locs) (hW : dt_W1 (hd, pc, rt, par, st, sz, mr, nb, made, gg)) (hR : (dt_rm 1 21).frames + 1 ≤ R.frames ∧ 8 + (2 + 11) + (dt_rm 1 21).locals ≤ R.locals) (hsz : ls.size = nL) (hroom : (rest.map fun v => v.category).sum ≤ 8) (hf : cells ≤ R.cells ∧ slots ≤ R.slots) (hdg : decode cc pw = .ok (.invokevirtual 43, 3)) (kk : ∀ (H1 : Heap) (locs1 : List Loc), dt_hq D A s (dt_w0 d h0 a τ ++ dt_w1 d1 dz h1 a1 (hd, pc, rt, par, st, sz, mr, nb, made, gg)) H1 locs1 → W p l e R s m args below meth c H1 locs1 cells slots Q (F0 m (pw + 3) ls (.int (dm_rights (hd, pc, rt, par, st, sz, mr, nb, made, gg) x) :: rest))) : W p l e R s m args below meth c H locs cells slots Q (F0 m pw ls (.int x :: .ref h1 :: rest)) :=
  dt_L1 (As := [.int x]) (nA := 1) E h (m1_rights l D d1 dz h1 a1 H.size made hd pc rt par st sz mr nb gg x hW) (lw_V q242 q243 q244 q20 q245) rfl (by decide +kernel) hR ⟨rfl, rfl⟩ hsz rfl hroom hdg hf kk
theorem dt_L1_room {made : Int32} {hd pc rt par st sz mr nb gg : dt_F} {x : Int32} {τ : dt_S0} (E : dt_ev p s m args meth c cc nL R_law rty D [(d, .int), (d1, .int), (dz, .boolean)]) (h : dt_hq D A s (dt_w1 d1 dz h1 a1 (hd, pc, rt, par, st, sz, mr, nb, made, gg) ++ dt_w0 d h0 a τ) H locs) (hW : dt_W1 (hd, pc, rt, par, st, sz, mr, nb, made, gg)) (hR : (dt_rm 1 21).frames + 1 ≤ R.frames ∧ 8 + (2 + 11) + (dt_rm 1 21).locals ≤ R.locals) (hsz : ls.size = nL) (hroom : (rest.map fun v => v.category).sum ≤ 8) (hf : cells ≤ R.cells ∧ slots ≤ R.slots) (hdg : decode cc pw = .ok (.invokevirtual 47, 3)) (kk : ∀ (H1 : Heap) (locs1 : List Loc), dt_hq D A s (dt_w0 d h0 a τ ++ dt_w1 d1 dz h1 a1 (hd, pc, rt, par, st, sz, mr, nb, made, gg)) H1 locs1 → W p l e R s m args below meth c H1 locs1 cells slots Q (F0 m (pw + 3) ls (.int (dm_room (hd, pc, rt, par, st, sz, mr, nb, made, gg) x) :: rest))) : W p l e R s m args below meth c H locs cells slots Q (F0 m pw ls (.int x :: .ref h1 :: rest)) :=
  dt_L1 (As := [.int x]) (nA := 1) E h (m1_room l D d1 dz h1 a1 H.size made hd pc rt par st sz mr nb gg x hW) (lw_V q246 q247 q248 q20 q249) rfl (by decide +kernel) hR ⟨rfl, rfl⟩ hsz rfl hroom hdg hf kk
theorem dt_L1_descends {made : Int32} {hd pc rt par st sz mr nb gg : dt_F} {x y : Int32} {τ : dt_S0} (E : dt_ev p s m args meth c cc nL R_law rty D [(d, .int), (d1, .int), (dz, .boolean)]) (h : dt_hq D A s (dt_w1 d1 dz h1 a1 (hd, pc, rt, par, st, sz, mr, nb, made, gg) ++ dt_w0 d h0 a τ) H locs) (hW : dt_W1 (hd, pc, rt, par, st, sz, mr, nb, made, gg)) (hR : (dt_rm 1 24).frames + 1 ≤ R.frames ∧ 8 + (3 + 11) + (dt_rm 1 24).locals ≤ R.locals) (hsz : ls.size = nL) (hroom : (rest.map fun v => v.category).sum ≤ 8) (hf : cells ≤ R.cells ∧ slots ≤ R.slots) (hdg : decode cc pw = .ok (.invokevirtual 51, 3)) (kk : ∀ (H1 : Heap) (locs1 : List Loc), dt_hq D A s (dt_w0 d h0 a τ ++ dt_w1 d1 dz h1 a1 (hd, pc, rt, par, st, sz, mr, nb, made, gg)) H1 locs1 → W p l e R s m args below meth c H1 locs1 cells slots Q (F0 m (pw + 3) ls (.int (dm_descends (hd, pc, rt, par, st, sz, mr, nb, made, gg) x y) :: rest))) : W p l e R s m args below meth c H locs cells slots Q (F0 m pw ls (.int y :: .int x :: .ref h1 :: rest)) :=
  dt_L1 (As := [.int x, .int y]) (nA := 2) E h (m1_descends l D d1 dz h1 a1 H.size made hd pc rt par st sz mr nb gg x y hW) (lw_V q250 q251 q252 q20 q253) rfl (by decide +kernel) hR ⟨rfl, rfl⟩ hsz rfl hroom hdg hf kk
theorem dt_L1_descendants {made : Int32} {hd pc rt par st sz mr nb gg : dt_F} {x : Int32} {τ : dt_S0} (E : dt_ev p s m args meth c cc nL R_law rty D [(d, .int), (d1, .int), (dz, .boolean)]) (h : dt_hq D A s (dt_w1 d1 dz h1 a1 (hd, pc, rt, par, st, sz, mr, nb, made, gg) ++ dt_w0 d h0 a τ) H locs) (hW : dt_W1 (hd, pc, rt, par, st, sz, mr, nb, made, gg)) (hR : (dt_rm 1 24).frames + 1 ≤ R.frames ∧ 8 + (4 + 11) + (dt_rm 1 24).locals ≤ R.locals) (hsz : ls.size = nL) (hroom : (rest.map fun v => v.category).sum ≤ 8) (hf : cells ≤ R.cells ∧ slots ≤ R.slots) (hdg : decode cc pw = .ok (.invokevirtual 55, 3)) (kk : ∀ (H1 : Heap) (locs1 : List Loc), dt_hq D A s (dt_w0 d h0 a τ ++ dt_w1 d1 dz h1 a1 (hd, pc, rt, par, st, sz, mr, nb, made, gg)) H1 locs1 → W p l e R s m args below meth c H1 locs1 cells slots Q (F0 m (pw + 3) ls (.int (dm_descendants (hd, pc, rt, par, st, sz, mr, nb, made, gg) x) :: rest))) : W p l e R s m args below meth c H locs cells slots Q (F0 m pw ls (.int x :: .ref h1 :: rest)) :=
  dt_L1 (As := [.int x]) (nA := 1) E h (m1_descendants l D d1 dz h1 a1 H.size made hd pc rt par st sz mr nb gg x hW) (lw_V q254 q255 q256 q20 q257) rfl (by decide +kernel) hR ⟨rfl, rfl⟩ hsz rfl hroom hdg hf kk
theorem dt_L1_keys {made : Int32} {hd pc rt par st sz mr nb gg : dt_F} {τ : dt_S0} (E : dt_ev p s m args meth c cc nL R_law rty D [(d, .int), (d1, .int), (dz, .boolean)]) (h : dt_hq D A s (dt_w1 d1 dz h1 a1 (hd, pc, rt, par, st, sz, mr, nb, made, gg) ++ dt_w0 d h0 a τ) H locs) (hR : (dt_rm 0 0).frames + 1 ≤ R.frames ∧ 8 + (3 + 11) + (dt_rm 0 0).locals ≤ R.locals) (hsz : ls.size = nL) (hroom : (rest.map fun v => v.category).sum ≤ 8) (hf : cells ≤ R.cells ∧ slots ≤ R.slots) (hdg : decode cc pw = .ok (.invokevirtual 60, 3)) (kk : ∀ (H1 : Heap) (locs1 : List Loc), dt_hq D A s (dt_w0 d h0 a τ ++ dt_w1 d1 dz h1 a1 (hd, pc, rt, par, st, sz, mr, nb, made, gg)) H1 locs1 → W p l e R s m args below meth c H1 locs1 cells slots Q (F0 m (pw + 3) ls (.int (dm_keys (hd, pc, rt, par, st, sz, mr, nb, made, gg)) :: rest))) : W p l e R s m args below meth c H locs cells slots Q (F0 m pw ls (.ref h1 :: rest)) :=
  dt_L1 (As := []) (nA := 0) E h (m1_keys l D d1 dz h1 a1 H.size made hd pc rt par st sz mr nb gg ) (lw_V q258 q259 q260 q20 q261) rfl (by decide +kernel) hR ⟨rfl, rfl⟩ hsz rfl hroom hdg hf kk
end DTL
theorem dt_end4 {i L : Nat} (hi : i < 2 ^ 29) (hL : L ≤ 256) : nI L - 4 < nI i ↔ L < i + 4 := by
  rw [Int32.lt_iff_toInt_lt, show (4 : Int32) = nI 4 from rfl, pk_sub_toInt (by omega) (by omega), nI_toInt (by omega)]
  omega
theorem dt_inc4 (i : Nat) : nI i + Int32.ofInt 4 = nI (i + 4) := nI_add i 4
end
section
set_option maxRecDepth 100000
set_option maxHeartbeats 16000000 in
set_option maxRecDepth 100000 in
theorem law_loop {p : Program} {l : Launch} {e : Env} {s : State} {m : MethodId} {below : List Frame} {meth : Method} {c : Code} {D : va_G} {b L : Nat} {xs : Nat → Int32} {d d1 dz : ClassId} {h0 h1 : Nat} {a a1 : Nat → Nat} (hL : L ≤ 256) (C0 : lw_At p s m meth c b L xs) (E : dt_ev p s m #[Value.ref b] meth c cL_law 4 R_law ret D [(d, .int), (d1, .int), (dz, .boolean)]) :
    ∀ (dd i : Nat) (σ : dt_S0) (τ : dt_S1) (H : Heap) (locs : List Loc), L < i + dd → i ≤ 1000 + L → dt_Rel σ τ → dt_hq D (fun q : Nat => s.heap.size ≤ q) s (dt_w0 d h0 a σ ++ dt_w1 d1 dz h1 a1 τ) H locs → ∀ (ls : Array Slot), lv_has ls 4 [(0, .ref b), (1, .ref h0), (2, .ref h1), (3, .int (nI i))] → W p l e room_1 s m #[Value.ref b] below meth c H locs 20 309 (lw_Z below #[Value.ref b] s) (F0 m 18 ls []) := by
  obtain ⟨hx, hb, hr, hml, hown, hts, hX, hbl, hlocks, hgv⟩ := C0
  have hbA : ¬ (fun q : Nat => s.heap.size ≤ q) b := Nat.not_le.mpr hbl
  intro dd
  induction dd with
  | zero =>
    intro i σ τ H locs hi hi2 hR hu ls hl
    refine lv_iload_n hx hb dL_law_18 rfl (lv_at hl 3 rfl) ?_
    refine lv_aload_n hx hb dL_law_19 rfl (lv_at hl 0 rfl) ?_
    refine dt_slen E hu hX hbl hbA dL_law_20 ?_
    refine lv_iconst (v := 4) hx hb dL_law_21 (by decide) ?_
    refine lv_isub hx hb dL_law_22 ?_
    refine lv_icmp_gt (tgt := 401) hx hb dL_law_23 (by decide) (fun c1 => ?_) (fun c1 => absurd ((dt_end4 (by omega) hL).mpr (by omega)) c1)
    refine lv_iconst (v := 1) hx hb dL_law_401 (by decide) ?_
    refine va_forget (fun q hq => hu.2.2.1.2.2 q hq) ?_
    refine W.widen (k := 600000) (n := 7290000) (by decide) (by decide) ?_
    exact lw_ret hx hb hr hlocks dL_law_402
  | succ dd ih =>
    intro i σ τ H locs hi hi2 hR hu ls hl
    refine lv_iload_n hx hb dL_law_18 rfl (lv_at hl 3 rfl) ?_
    refine lv_aload_n hx hb dL_law_19 rfl (lv_at hl 0 rfl) ?_
    refine dt_slen E hu hX hbl hbA dL_law_20 ?_
    refine lv_iconst (v := 4) hx hb dL_law_21 (by decide) ?_
    refine lv_isub hx hb dL_law_22 ?_
    refine lv_icmp_gt (tgt := 401) hx hb dL_law_23 (by decide) (fun c1 => ?_) (fun c1 => ?_)
    · refine lv_iconst (v := 1) hx hb dL_law_401 (by decide) ?_
      refine va_forget (fun q hq => hu.2.2.1.2.2 q hq) ?_
      refine W.widen (k := 600000) (n := 7290000) (by decide) (by decide) ?_
      exact lw_ret hx hb hr hlocks dL_law_402
    · have hi4 : i + 4 ≤ L := Nat.le_of_not_lt (fun q => c1 ((dt_end4 (by omega) hL).mpr q))
      obtain ⟨w0, w1⟩ := dt_Rel_W hR
      obtain ⟨made, n, st, sz, mr, kt, nb, sl, dp, pc, rt⟩ := σ
      obtain ⟨hd, pc1, rt1, par, st1, sz1, mr1, nb1, made1, gg⟩ := τ
      refine lv_aload_n hx hb dL_law_26 rfl (lv_at hl 0 rfl) ?_
      refine lv_iload_n hx hb dL_law_27 rfl (lv_at hl 3 rfl) ?_
      refine dt_sld E hu hX hbl hbA hL (j := i) (by omega) dL_law_28 ?_
      refine lv_bipush (v := 15) hx hb dL_law_29 (by decide) ?_
      refine lv_iand hx hb dL_law_31 ?_
      obtain ⟨j, hj, ej⟩ := pk_andE (xs i) (m := 15) 4 (by decide)
      refine dt_tp ej ?_
      have nxt : ∀ (σ2 : dt_S0) (τ2 : dt_S1) (H : Heap) (locs : List Loc), dt_Rel σ2 τ2 → dt_hq D (fun q : Nat => s.heap.size ≤ q) s (dt_w0 d h0 a σ2 ++ dt_w1 d1 dz h1 a1 τ2) H locs → W p l e room_1 s m #[Value.ref b] below meth c H locs 20 309 (lw_Z below #[Value.ref b] s) (F0 m 395 ls []) := by
        intro σ2 τ2 H locs hR2 hu2
        refine lv_iinc (v := nI (i + 4)) (lv' := [(3, .int (nI (i + 4))), (0, .ref b), (1, .ref h0), (2, .ref h1)]) hx hb dL_law_395 hl (k := 3) rfl (dt_inc4 _) (by decide) rfl (fun ls hl => ?_)
        refine lv_goto (tgt := 18) hx hb dL_law_398 (by decide) ?_
        exact ih (i + 4) σ2 τ2 H locs (by omega) (by omega) hR2 hu2 ls (lv_sub hl [1, 2, 3, 0] rfl)
      rcases (show j = 0 ∨ j = 1 ∨ j = 2 ∨ j = 3 ∨ j = 4 ∨ j = 5 ∨ j = 6 ∨ j = 7 ∨ j = 8 ∨ j = 9 ∨ j = 10 ∨ 11 ≤ j by omega) with rfl | rfl | rfl | rfl | rfl | rfl | rfl | rfl | rfl | rfl | rfl | hj11
      · refine lv_tableIn (off := 60) (tgt := 92) hx hb dL_law_32 (by decide) (by decide) (by decide) (by decide) ?_
        refine lv_aload_n hx hb dL_law_92 rfl (lv_at hl 1 rfl) ?_
        refine lv_aload_n hx hb dL_law_93 rfl (lv_at hl 0 rfl) ?_
        refine lv_iload_n hx hb dL_law_94 rfl (lv_at hl 3 rfl) ?_
        refine lv_iconst (v := 1) hx hb dL_law_95 (by decide) ?_
        refine lv_iadd hx hb dL_law_96 ?_
        refine dt_tp (show nI i + 1 = nI (i + 1) from nI_add i 1) ?_
        refine dt_sld E hu hX hbl hbA hL (j := i + 1) (by omega) dL_law_97 ?_
        refine lv_aload_n hx hb dL_law_98 rfl (lv_at hl 0 rfl) ?_
        refine lv_iload_n hx hb dL_law_99 rfl (lv_at hl 3 rfl) ?_
        refine lv_iconst (v := 2) hx hb dL_law_100 (by decide) ?_
        refine lv_iadd hx hb dL_law_101 ?_
        refine dt_tp (show nI i + 2 = nI (i + 2) from nI_add i 2) ?_
        refine dt_sld E hu hX hbl hbA hL (j := i + 2) (by omega) dL_law_102 ?_
        refine lv_aload_n hx hb dL_law_103 rfl (lv_at hl 0 rfl) ?_
        refine lv_iload_n hx hb dL_law_104 rfl (lv_at hl 3 rfl) ?_
        refine lv_iconst (v := 3) hx hb dL_law_105 (by decide) ?_
        refine lv_iadd hx hb dL_law_106 ?_
        refine dt_tp (show nI i + 3 = nI (i + 3) from nI_add i 3) ?_
        refine dt_sld E hu hX hbl hbA hL (j := i + 3) (by omega) dL_law_107 ?_
        refine dt_L0_split E hu w0 ⟨by decide, by decide⟩ hl.1 (Nat.le_of_ble_eq_true rfl) ⟨by decide, by decide⟩ dL_law_108 (fun H locs hu => ?_)
        refine lv_aload_n hx hb dL_law_111 rfl (lv_at hl 2 rfl) ?_
        refine lv_aload_n hx hb dL_law_112 rfl (lv_at hl 0 rfl) ?_
        refine lv_iload_n hx hb dL_law_113 rfl (lv_at hl 3 rfl) ?_
        refine lv_iconst (v := 1) hx hb dL_law_114 (by decide) ?_
        refine lv_iadd hx hb dL_law_115 ?_
        refine dt_tp (show nI i + 1 = nI (i + 1) from nI_add i 1) ?_
        refine dt_sld E hu hX hbl hbA hL (j := i + 1) (by omega) dL_law_116 ?_
        refine lv_aload_n hx hb dL_law_117 rfl (lv_at hl 0 rfl) ?_
        refine lv_iload_n hx hb dL_law_118 rfl (lv_at hl 3 rfl) ?_
        refine lv_iconst (v := 2) hx hb dL_law_119 (by decide) ?_
        refine lv_iadd hx hb dL_law_120 ?_
        refine dt_tp (show nI i + 2 = nI (i + 2) from nI_add i 2) ?_
        refine dt_sld E hu hX hbl hbA hL (j := i + 2) (by omega) dL_law_121 ?_
        refine lv_aload_n hx hb dL_law_122 rfl (lv_at hl 0 rfl) ?_
        refine lv_iload_n hx hb dL_law_123 rfl (lv_at hl 3 rfl) ?_
        refine lv_iconst (v := 3) hx hb dL_law_124 (by decide) ?_
        refine lv_iadd hx hb dL_law_125 ?_
        refine dt_tp (show nI i + 3 = nI (i + 3) from nI_add i 3) ?_
        refine dt_sld E hu hX hbl hbA hL (j := i + 3) (by omega) dL_law_126 ?_
        refine dt_L1_split E hu w1 ⟨by decide, by decide⟩ hl.1 (Nat.le_of_ble_eq_true rfl) ⟨by decide, by decide⟩ dL_law_127 (fun H locs hu => ?_)
        refine lv_icmp_eq (tgt := 395) hx hb dL_law_130 (by decide) (fun c2 => ?_) (fun c2 => absurd ((dt_Rel_split hR (xs (i + 1)) (xs (i + 2)) (xs (i + 3))).1) c2)
        exact nxt _ _ H locs (dt_Rel_split hR (xs (i + 1)) (xs (i + 2)) (xs (i + 3))).2 hu
      · refine lv_tableIn (off := 103) (tgt := 135) hx hb dL_law_32 (by decide) (by decide) (by decide) (by decide) ?_
        refine lv_aload_n hx hb dL_law_135 rfl (lv_at hl 1 rfl) ?_
        refine lv_aload_n hx hb dL_law_136 rfl (lv_at hl 0 rfl) ?_
        refine lv_iload_n hx hb dL_law_137 rfl (lv_at hl 3 rfl) ?_
        refine lv_iconst (v := 1) hx hb dL_law_138 (by decide) ?_
        refine lv_iadd hx hb dL_law_139 ?_
        refine dt_tp (show nI i + 1 = nI (i + 1) from nI_add i 1) ?_
        refine dt_sld E hu hX hbl hbA hL (j := i + 1) (by omega) dL_law_140 ?_
        refine lv_aload_n hx hb dL_law_141 rfl (lv_at hl 0 rfl) ?_
        refine lv_iload_n hx hb dL_law_142 rfl (lv_at hl 3 rfl) ?_
        refine lv_iconst (v := 2) hx hb dL_law_143 (by decide) ?_
        refine lv_iadd hx hb dL_law_144 ?_
        refine dt_tp (show nI i + 2 = nI (i + 2) from nI_add i 2) ?_
        refine dt_sld E hu hX hbl hbA hL (j := i + 2) (by omega) dL_law_145 ?_
        refine lv_aload_n hx hb dL_law_146 rfl (lv_at hl 0 rfl) ?_
        refine lv_iload_n hx hb dL_law_147 rfl (lv_at hl 3 rfl) ?_
        refine lv_iconst (v := 3) hx hb dL_law_148 (by decide) ?_
        refine lv_iadd hx hb dL_law_149 ?_
        refine dt_tp (show nI i + 3 = nI (i + 3) from nI_add i 3) ?_
        refine dt_sld E hu hX hbl hbA hL (j := i + 3) (by omega) dL_law_150 ?_
        refine dt_L0_copy E hu w0 ⟨by decide, by decide⟩ hl.1 (Nat.le_of_ble_eq_true rfl) ⟨by decide, by decide⟩ dL_law_151 (fun H locs hu => ?_)
        refine lv_aload_n hx hb dL_law_154 rfl (lv_at hl 2 rfl) ?_
        refine lv_aload_n hx hb dL_law_155 rfl (lv_at hl 0 rfl) ?_
        refine lv_iload_n hx hb dL_law_156 rfl (lv_at hl 3 rfl) ?_
        refine lv_iconst (v := 1) hx hb dL_law_157 (by decide) ?_
        refine lv_iadd hx hb dL_law_158 ?_
        refine dt_tp (show nI i + 1 = nI (i + 1) from nI_add i 1) ?_
        refine dt_sld E hu hX hbl hbA hL (j := i + 1) (by omega) dL_law_159 ?_
        refine lv_aload_n hx hb dL_law_160 rfl (lv_at hl 0 rfl) ?_
        refine lv_iload_n hx hb dL_law_161 rfl (lv_at hl 3 rfl) ?_
        refine lv_iconst (v := 2) hx hb dL_law_162 (by decide) ?_
        refine lv_iadd hx hb dL_law_163 ?_
        refine dt_tp (show nI i + 2 = nI (i + 2) from nI_add i 2) ?_
        refine dt_sld E hu hX hbl hbA hL (j := i + 2) (by omega) dL_law_164 ?_
        refine lv_aload_n hx hb dL_law_165 rfl (lv_at hl 0 rfl) ?_
        refine lv_iload_n hx hb dL_law_166 rfl (lv_at hl 3 rfl) ?_
        refine lv_iconst (v := 3) hx hb dL_law_167 (by decide) ?_
        refine lv_iadd hx hb dL_law_168 ?_
        refine dt_tp (show nI i + 3 = nI (i + 3) from nI_add i 3) ?_
        refine dt_sld E hu hX hbl hbA hL (j := i + 3) (by omega) dL_law_169 ?_
        refine dt_L1_copy E hu w1 ⟨by decide, by decide⟩ hl.1 (Nat.le_of_ble_eq_true rfl) ⟨by decide, by decide⟩ dL_law_170 (fun H locs hu => ?_)
        refine lv_icmp_eq (tgt := 395) hx hb dL_law_173 (by decide) (fun c2 => ?_) (fun c2 => absurd ((dt_Rel_copy hR (xs (i + 1)) (xs (i + 2)) (xs (i + 3))).1) c2)
        exact nxt _ _ H locs (dt_Rel_copy hR (xs (i + 1)) (xs (i + 2)) (xs (i + 3))).2 hu
      · refine lv_tableIn (off := 146) (tgt := 178) hx hb dL_law_32 (by decide) (by decide) (by decide) (by decide) ?_
        refine lv_aload_n hx hb dL_law_178 rfl (lv_at hl 1 rfl) ?_
        refine lv_aload_n hx hb dL_law_179 rfl (lv_at hl 0 rfl) ?_
        refine lv_iload_n hx hb dL_law_180 rfl (lv_at hl 3 rfl) ?_
        refine lv_iconst (v := 1) hx hb dL_law_181 (by decide) ?_
        refine lv_iadd hx hb dL_law_182 ?_
        refine dt_tp (show nI i + 1 = nI (i + 1) from nI_add i 1) ?_
        refine dt_sld E hu hX hbl hbA hL (j := i + 1) (by omega) dL_law_183 ?_
        refine lv_aload_n hx hb dL_law_184 rfl (lv_at hl 0 rfl) ?_
        refine lv_iload_n hx hb dL_law_185 rfl (lv_at hl 3 rfl) ?_
        refine lv_iconst (v := 2) hx hb dL_law_186 (by decide) ?_
        refine lv_iadd hx hb dL_law_187 ?_
        refine dt_tp (show nI i + 2 = nI (i + 2) from nI_add i 2) ?_
        refine dt_sld E hu hX hbl hbA hL (j := i + 2) (by omega) dL_law_188 ?_
        refine dt_L0_move E hu w0 ⟨by decide, by decide⟩ hl.1 (Nat.le_of_ble_eq_true rfl) ⟨by decide, by decide⟩ dL_law_189 (fun H locs hu => ?_)
        refine lv_aload_n hx hb dL_law_192 rfl (lv_at hl 2 rfl) ?_
        refine lv_aload_n hx hb dL_law_193 rfl (lv_at hl 0 rfl) ?_
        refine lv_iload_n hx hb dL_law_194 rfl (lv_at hl 3 rfl) ?_
        refine lv_iconst (v := 1) hx hb dL_law_195 (by decide) ?_
        refine lv_iadd hx hb dL_law_196 ?_
        refine dt_tp (show nI i + 1 = nI (i + 1) from nI_add i 1) ?_
        refine dt_sld E hu hX hbl hbA hL (j := i + 1) (by omega) dL_law_197 ?_
        refine lv_aload_n hx hb dL_law_198 rfl (lv_at hl 0 rfl) ?_
        refine lv_iload_n hx hb dL_law_199 rfl (lv_at hl 3 rfl) ?_
        refine lv_iconst (v := 2) hx hb dL_law_200 (by decide) ?_
        refine lv_iadd hx hb dL_law_201 ?_
        refine dt_tp (show nI i + 2 = nI (i + 2) from nI_add i 2) ?_
        refine dt_sld E hu hX hbl hbA hL (j := i + 2) (by omega) dL_law_202 ?_
        refine dt_L1_move E hu w1 ⟨by decide, by decide⟩ hl.1 (Nat.le_of_ble_eq_true rfl) ⟨by decide, by decide⟩ dL_law_203 (fun H locs hu => ?_)
        refine lv_icmp_eq (tgt := 395) hx hb dL_law_206 (by decide) (fun c2 => ?_) (fun c2 => absurd ((dt_Rel_move hR (xs (i + 1)) (xs (i + 2))).1) c2)
        exact nxt _ _ H locs (dt_Rel_move hR (xs (i + 1)) (xs (i + 2))).2 hu
      · refine lv_tableIn (off := 179) (tgt := 211) hx hb dL_law_32 (by decide) (by decide) (by decide) (by decide) ?_
        refine lv_aload_n hx hb dL_law_211 rfl (lv_at hl 1 rfl) ?_
        refine lv_aload_n hx hb dL_law_212 rfl (lv_at hl 0 rfl) ?_
        refine lv_iload_n hx hb dL_law_213 rfl (lv_at hl 3 rfl) ?_
        refine lv_iconst (v := 1) hx hb dL_law_214 (by decide) ?_
        refine lv_iadd hx hb dL_law_215 ?_
        refine dt_tp (show nI i + 1 = nI (i + 1) from nI_add i 1) ?_
        refine dt_sld E hu hX hbl hbA hL (j := i + 1) (by omega) dL_law_216 ?_
        refine dt_L0_delete E hu w0 ⟨by decide, by decide⟩ hl.1 (Nat.le_of_ble_eq_true rfl) ⟨by decide, by decide⟩ dL_law_217 (fun H locs hu => ?_)
        refine lv_aload_n hx hb dL_law_220 rfl (lv_at hl 2 rfl) ?_
        refine lv_aload_n hx hb dL_law_221 rfl (lv_at hl 0 rfl) ?_
        refine lv_iload_n hx hb dL_law_222 rfl (lv_at hl 3 rfl) ?_
        refine lv_iconst (v := 1) hx hb dL_law_223 (by decide) ?_
        refine lv_iadd hx hb dL_law_224 ?_
        refine dt_tp (show nI i + 1 = nI (i + 1) from nI_add i 1) ?_
        refine dt_sld E hu hX hbl hbA hL (j := i + 1) (by omega) dL_law_225 ?_
        refine dt_L1_delete E hu w1 ⟨by decide, by decide⟩ hl.1 (Nat.le_of_ble_eq_true rfl) ⟨by decide, by decide⟩ dL_law_226 (fun H locs hu => ?_)
        refine lv_icmp_eq (tgt := 395) hx hb dL_law_229 (by decide) (fun c2 => ?_) (fun c2 => absurd ((dt_Rel_delete hR (xs (i + 1))).1) c2)
        exact nxt _ _ H locs (dt_Rel_delete hR (xs (i + 1))).2 hu
      · refine lv_tableIn (off := 202) (tgt := 234) hx hb dL_law_32 (by decide) (by decide) (by decide) (by decide) ?_
        refine lv_aload_n hx hb dL_law_234 rfl (lv_at hl 1 rfl) ?_
        refine lv_aload_n hx hb dL_law_235 rfl (lv_at hl 0 rfl) ?_
        refine lv_iload_n hx hb dL_law_236 rfl (lv_at hl 3 rfl) ?_
        refine lv_iconst (v := 1) hx hb dL_law_237 (by decide) ?_
        refine lv_iadd hx hb dL_law_238 ?_
        refine dt_tp (show nI i + 1 = nI (i + 1) from nI_add i 1) ?_
        refine dt_sld E hu hX hbl hbA hL (j := i + 1) (by omega) dL_law_239 ?_
        refine dt_L0_revoke E hu w0 ⟨by decide, by decide⟩ hl.1 (Nat.le_of_ble_eq_true rfl) ⟨by decide, by decide⟩ dL_law_240 (fun H locs hu => ?_)
        refine lv_aload_n hx hb dL_law_243 rfl (lv_at hl 2 rfl) ?_
        refine lv_aload_n hx hb dL_law_244 rfl (lv_at hl 0 rfl) ?_
        refine lv_iload_n hx hb dL_law_245 rfl (lv_at hl 3 rfl) ?_
        refine lv_iconst (v := 1) hx hb dL_law_246 (by decide) ?_
        refine lv_iadd hx hb dL_law_247 ?_
        refine dt_tp (show nI i + 1 = nI (i + 1) from nI_add i 1) ?_
        refine dt_sld E hu hX hbl hbA hL (j := i + 1) (by omega) dL_law_248 ?_
        refine dt_L1_revoke E hu w1 ⟨by decide, by decide⟩ hl.1 (Nat.le_of_ble_eq_true rfl) ⟨by decide, by decide⟩ dL_law_249 (fun H locs hu => ?_)
        refine lv_icmp_eq (tgt := 395) hx hb dL_law_252 (by decide) (fun c2 => ?_) (fun c2 => absurd ((dt_Rel_revoke hR (xs (i + 1))).1) c2)
        exact nxt _ _ H locs (dt_Rel_revoke hR (xs (i + 1))).2 hu
      · refine lv_tableIn (off := 225) (tgt := 257) hx hb dL_law_32 (by decide) (by decide) (by decide) (by decide) ?_
        refine lv_aload_n hx hb dL_law_257 rfl (lv_at hl 1 rfl) ?_
        refine lv_aload_n hx hb dL_law_258 rfl (lv_at hl 0 rfl) ?_
        refine lv_iload_n hx hb dL_law_259 rfl (lv_at hl 3 rfl) ?_
        refine lv_iconst (v := 1) hx hb dL_law_260 (by decide) ?_
        refine lv_iadd hx hb dL_law_261 ?_
        refine dt_tp (show nI i + 1 = nI (i + 1) from nI_add i 1) ?_
        refine dt_sld E hu hX hbl hbA hL (j := i + 1) (by omega) dL_law_262 ?_
        refine dt_L0_piece E hu w0 ⟨by decide, by decide⟩ hl.1 (Nat.le_of_ble_eq_true rfl) ⟨by decide, by decide⟩ dL_law_263 (fun H locs hu => ?_)
        refine lv_aload_n hx hb dL_law_266 rfl (lv_at hl 2 rfl) ?_
        refine lv_aload_n hx hb dL_law_267 rfl (lv_at hl 0 rfl) ?_
        refine lv_iload_n hx hb dL_law_268 rfl (lv_at hl 3 rfl) ?_
        refine lv_iconst (v := 1) hx hb dL_law_269 (by decide) ?_
        refine lv_iadd hx hb dL_law_270 ?_
        refine dt_tp (show nI i + 1 = nI (i + 1) from nI_add i 1) ?_
        refine dt_sld E hu hX hbl hbA hL (j := i + 1) (by omega) dL_law_271 ?_
        refine dt_L1_piece E hu w1 ⟨by decide, by decide⟩ hl.1 (Nat.le_of_ble_eq_true rfl) ⟨by decide, by decide⟩ dL_law_272 (fun H locs hu => ?_)
        refine lv_icmp_eq (tgt := 395) hx hb dL_law_275 (by decide) (fun c2 => ?_) (fun c2 => absurd (dt_Rel_piece hR (xs (i + 1))) c2)
        exact nxt _ _ H locs hR hu
      · refine lv_tableIn (off := 248) (tgt := 280) hx hb dL_law_32 (by decide) (by decide) (by decide) (by decide) ?_
        refine lv_aload_n hx hb dL_law_280 rfl (lv_at hl 1 rfl) ?_
        refine lv_aload_n hx hb dL_law_281 rfl (lv_at hl 0 rfl) ?_
        refine lv_iload_n hx hb dL_law_282 rfl (lv_at hl 3 rfl) ?_
        refine lv_iconst (v := 1) hx hb dL_law_283 (by decide) ?_
        refine lv_iadd hx hb dL_law_284 ?_
        refine dt_tp (show nI i + 1 = nI (i + 1) from nI_add i 1) ?_
        refine dt_sld E hu hX hbl hbA hL (j := i + 1) (by omega) dL_law_285 ?_
        refine dt_L0_rights E hu w0 ⟨by decide, by decide⟩ hl.1 (Nat.le_of_ble_eq_true rfl) ⟨by decide, by decide⟩ dL_law_286 (fun H locs hu => ?_)
        refine lv_aload_n hx hb dL_law_289 rfl (lv_at hl 2 rfl) ?_
        refine lv_aload_n hx hb dL_law_290 rfl (lv_at hl 0 rfl) ?_
        refine lv_iload_n hx hb dL_law_291 rfl (lv_at hl 3 rfl) ?_
        refine lv_iconst (v := 1) hx hb dL_law_292 (by decide) ?_
        refine lv_iadd hx hb dL_law_293 ?_
        refine dt_tp (show nI i + 1 = nI (i + 1) from nI_add i 1) ?_
        refine dt_sld E hu hX hbl hbA hL (j := i + 1) (by omega) dL_law_294 ?_
        refine dt_L1_rights E hu w1 ⟨by decide, by decide⟩ hl.1 (Nat.le_of_ble_eq_true rfl) ⟨by decide, by decide⟩ dL_law_295 (fun H locs hu => ?_)
        refine lv_icmp_eq (tgt := 395) hx hb dL_law_298 (by decide) (fun c2 => ?_) (fun c2 => absurd (dt_Rel_rights hR (xs (i + 1))) c2)
        exact nxt _ _ H locs hR hu
      · refine lv_tableIn (off := 271) (tgt := 303) hx hb dL_law_32 (by decide) (by decide) (by decide) (by decide) ?_
        refine lv_aload_n hx hb dL_law_303 rfl (lv_at hl 1 rfl) ?_
        refine lv_aload_n hx hb dL_law_304 rfl (lv_at hl 0 rfl) ?_
        refine lv_iload_n hx hb dL_law_305 rfl (lv_at hl 3 rfl) ?_
        refine lv_iconst (v := 1) hx hb dL_law_306 (by decide) ?_
        refine lv_iadd hx hb dL_law_307 ?_
        refine dt_tp (show nI i + 1 = nI (i + 1) from nI_add i 1) ?_
        refine dt_sld E hu hX hbl hbA hL (j := i + 1) (by omega) dL_law_308 ?_
        refine dt_L0_room E hu w0 ⟨by decide, by decide⟩ hl.1 (Nat.le_of_ble_eq_true rfl) ⟨by decide, by decide⟩ dL_law_309 (fun H locs hu => ?_)
        refine lv_aload_n hx hb dL_law_312 rfl (lv_at hl 2 rfl) ?_
        refine lv_aload_n hx hb dL_law_313 rfl (lv_at hl 0 rfl) ?_
        refine lv_iload_n hx hb dL_law_314 rfl (lv_at hl 3 rfl) ?_
        refine lv_iconst (v := 1) hx hb dL_law_315 (by decide) ?_
        refine lv_iadd hx hb dL_law_316 ?_
        refine dt_tp (show nI i + 1 = nI (i + 1) from nI_add i 1) ?_
        refine dt_sld E hu hX hbl hbA hL (j := i + 1) (by omega) dL_law_317 ?_
        refine dt_L1_room E hu w1 ⟨by decide, by decide⟩ hl.1 (Nat.le_of_ble_eq_true rfl) ⟨by decide, by decide⟩ dL_law_318 (fun H locs hu => ?_)
        refine lv_icmp_eq (tgt := 395) hx hb dL_law_321 (by decide) (fun c2 => ?_) (fun c2 => absurd (dt_Rel_room hR (xs (i + 1))) c2)
        exact nxt _ _ H locs hR hu
      · refine lv_tableIn (off := 294) (tgt := 326) hx hb dL_law_32 (by decide) (by decide) (by decide) (by decide) ?_
        refine lv_aload_n hx hb dL_law_326 rfl (lv_at hl 1 rfl) ?_
        refine lv_aload_n hx hb dL_law_327 rfl (lv_at hl 0 rfl) ?_
        refine lv_iload_n hx hb dL_law_328 rfl (lv_at hl 3 rfl) ?_
        refine lv_iconst (v := 1) hx hb dL_law_329 (by decide) ?_
        refine lv_iadd hx hb dL_law_330 ?_
        refine dt_tp (show nI i + 1 = nI (i + 1) from nI_add i 1) ?_
        refine dt_sld E hu hX hbl hbA hL (j := i + 1) (by omega) dL_law_331 ?_
        refine lv_aload_n hx hb dL_law_332 rfl (lv_at hl 0 rfl) ?_
        refine lv_iload_n hx hb dL_law_333 rfl (lv_at hl 3 rfl) ?_
        refine lv_iconst (v := 2) hx hb dL_law_334 (by decide) ?_
        refine lv_iadd hx hb dL_law_335 ?_
        refine dt_tp (show nI i + 2 = nI (i + 2) from nI_add i 2) ?_
        refine dt_sld E hu hX hbl hbA hL (j := i + 2) (by omega) dL_law_336 ?_
        refine dt_L0_descends E hu w0 ⟨by decide, by decide⟩ hl.1 (Nat.le_of_ble_eq_true rfl) ⟨by decide, by decide⟩ dL_law_337 (fun H locs hu => ?_)
        refine lv_aload_n hx hb dL_law_340 rfl (lv_at hl 2 rfl) ?_
        refine lv_aload_n hx hb dL_law_341 rfl (lv_at hl 0 rfl) ?_
        refine lv_iload_n hx hb dL_law_342 rfl (lv_at hl 3 rfl) ?_
        refine lv_iconst (v := 1) hx hb dL_law_343 (by decide) ?_
        refine lv_iadd hx hb dL_law_344 ?_
        refine dt_tp (show nI i + 1 = nI (i + 1) from nI_add i 1) ?_
        refine dt_sld E hu hX hbl hbA hL (j := i + 1) (by omega) dL_law_345 ?_
        refine lv_aload_n hx hb dL_law_346 rfl (lv_at hl 0 rfl) ?_
        refine lv_iload_n hx hb dL_law_347 rfl (lv_at hl 3 rfl) ?_
        refine lv_iconst (v := 2) hx hb dL_law_348 (by decide) ?_
        refine lv_iadd hx hb dL_law_349 ?_
        refine dt_tp (show nI i + 2 = nI (i + 2) from nI_add i 2) ?_
        refine dt_sld E hu hX hbl hbA hL (j := i + 2) (by omega) dL_law_350 ?_
        refine dt_L1_descends E hu w1 ⟨by decide, by decide⟩ hl.1 (Nat.le_of_ble_eq_true rfl) ⟨by decide, by decide⟩ dL_law_351 (fun H locs hu => ?_)
        refine lv_icmp_eq (tgt := 395) hx hb dL_law_354 (by decide) (fun c2 => ?_) (fun c2 => absurd (dt_Rel_descends hR (xs (i + 1)) (xs (i + 2))) c2)
        exact nxt _ _ H locs hR hu
      · refine lv_tableIn (off := 327) (tgt := 359) hx hb dL_law_32 (by decide) (by decide) (by decide) (by decide) ?_
        refine lv_aload_n hx hb dL_law_359 rfl (lv_at hl 1 rfl) ?_
        refine lv_aload_n hx hb dL_law_360 rfl (lv_at hl 0 rfl) ?_
        refine lv_iload_n hx hb dL_law_361 rfl (lv_at hl 3 rfl) ?_
        refine lv_iconst (v := 1) hx hb dL_law_362 (by decide) ?_
        refine lv_iadd hx hb dL_law_363 ?_
        refine dt_tp (show nI i + 1 = nI (i + 1) from nI_add i 1) ?_
        refine dt_sld E hu hX hbl hbA hL (j := i + 1) (by omega) dL_law_364 ?_
        refine dt_L0_descendants E hu w0 ⟨by decide, by decide⟩ hl.1 (Nat.le_of_ble_eq_true rfl) ⟨by decide, by decide⟩ dL_law_365 (fun H locs hu => ?_)
        refine lv_aload_n hx hb dL_law_368 rfl (lv_at hl 2 rfl) ?_
        refine lv_aload_n hx hb dL_law_369 rfl (lv_at hl 0 rfl) ?_
        refine lv_iload_n hx hb dL_law_370 rfl (lv_at hl 3 rfl) ?_
        refine lv_iconst (v := 1) hx hb dL_law_371 (by decide) ?_
        refine lv_iadd hx hb dL_law_372 ?_
        refine dt_tp (show nI i + 1 = nI (i + 1) from nI_add i 1) ?_
        refine dt_sld E hu hX hbl hbA hL (j := i + 1) (by omega) dL_law_373 ?_
        refine dt_L1_descendants E hu w1 ⟨by decide, by decide⟩ hl.1 (Nat.le_of_ble_eq_true rfl) ⟨by decide, by decide⟩ dL_law_374 (fun H locs hu => ?_)
        refine lv_icmp_eq (tgt := 395) hx hb dL_law_377 (by decide) (fun c2 => ?_) (fun c2 => absurd (dt_Rel_descendants hR (xs (i + 1))) c2)
        exact nxt _ _ H locs hR hu
      · refine lv_tableIn (off := 350) (tgt := 382) hx hb dL_law_32 (by decide) (by decide) (by decide) (by decide) ?_
        refine lv_aload_n hx hb dL_law_382 rfl (lv_at hl 1 rfl) ?_
        refine dt_L0_keys E hu ⟨by decide, by decide⟩ hl.1 (Nat.le_of_ble_eq_true rfl) ⟨by decide, by decide⟩ dL_law_383 (fun H locs hu => ?_)
        refine lv_aload_n hx hb dL_law_386 rfl (lv_at hl 2 rfl) ?_
        refine dt_L1_keys E hu ⟨by decide, by decide⟩ hl.1 (Nat.le_of_ble_eq_true rfl) ⟨by decide, by decide⟩ dL_law_387 (fun H locs hu => ?_)
        refine lv_icmp_eq (tgt := 395) hx hb dL_law_390 (by decide) (fun c2 => ?_) (fun c2 => absurd (dt_Rel_keys hR) c2)
        exact nxt _ _ H locs hR hu
      · refine lv_tableOut (tgt := 395) hx hb dL_law_32 (Or.inr (by rw [nI_toInt (by omega)]; omega)) (by decide) ?_
        exact nxt _ _ H locs hR hu
set_option maxHeartbeats 16000000 in
set_option maxRecDepth 100000 in
theorem whole_start {p : Program} {e : Env} {s : State} {m : MethodId} {below : List Frame} {meth : Method} {c : Code} (l : Launch) {b L : Nat} {xs : Nat → Int32} (hL : L ≤ 256) (C0 : lw_At p s m meth c b L xs) : W p l e room_1 s m #[Value.ref b] below meth c s.heap [] 0 0 (lw_Z below #[Value.ref b] s) (entryFrame m ([Value.ref b] : List Value).toArray 4) := by
  obtain ⟨hx, hb, hr, hml, hown, hts0, hX, hbl, hlocks, hgv⟩ := id C0
  have hts : ∀ w ∈ lw_all, w.before #[Value.ref b] s = true := fun w h => hts0 w (lw_all_tbl h)
  have hA : ∀ q : Nat, s.heap.size ≤ q → (fun q : Nat => s.heap.size ≤ q) q := fun _ h => h
  obtain ⟨c0, iS0, hKn0⟩ := u_known (C := RX0) (T := TX0) (N := 11) (n := 11) hts in_X0 (hts _ q22)
  obtain ⟨c1, iS1, hKn1⟩ := u_known (C := RX1) (T := TX1) (N := 10) (n := 10) hts in_X1 (hts _ q149)
  obtain ⟨dC, dI, hKc⟩ : ∃ (dC : Nat → ClassId) (dI : Nat → Nat → Nat), ∀ (k : Nat) (q : vw_C), vwCl[k]? = some q → u_Kn s q.1 q.2.1 q.2.2 (dC k) (dI k) := by
    refine ⟨fun k => if k = 0 then c0 else c1, fun k => if k = 0 then iS0 else iS1, ?_⟩
    intro k q hq
    match k, hq with
    | 0, hq => cases hq; exact hKn0
    | 1, hq => cases hq; exact hKn1
    | k + 2, hq => simp [vwCl] at hq
  have hS : va_S (fun q : Nat => s.heap.size ≤ q) s.heap s.heap [] := va_S.rf
  have hK : va_K (dC, dI) vwCl [] s := ⟨hKc, fun k q h => by simp at h⟩
  have hP : va_P (dC, dI) vwCl [] s.heap := fun k q h => by simp at h
  have hD : va_D (fun q : Nat => s.heap.size ≤ q) [] := ⟨fun i j p q h => by simp at h, fun k q h => by simp at h⟩
  have hl := lv_entry ([.ref b]) (n := 4) (Nat.le_of_ble_eq_true rfl)
  rw [lg_entry_eq]
  generalize (lg_sl ([.ref b]) ++ List.replicate (4 - (lg_sl ([.ref b])).length) Slot.unset).toArray = ls at hl ⊢
  have hl : lv_has ls 4 [(0, .ref b)] := hl
  refine va_new (ci := 0) (fs := [.int 0, .null, .null, .null, .null, .null, .int 0, .null, .null, .null, .null]) (C := RX0) (T := TX0) (N := 11) hx hb hts in_X0 tyX0 tyX0_ok hown (hts _ q21) (hts _ q22) (hts _ q19) hK hP hD hS hA rfl (fun j hj => by rcases (show j = 0 ∨ j = 1 ∨ j = 2 ∨ j = 3 ∨ j = 4 ∨ j = 5 ∨ j = 6 ∨ j = 7 ∨ j = 8 ∨ j = 9 ∨ j = 10 by omega) with rfl | rfl | rfl | rfl | rfl | rfl | rfl | rfl | rfl | rfl | rfl <;> rfl) (by decide) (by decide) dL_law_0 (fun h0 H hP hD hS => ?_)
  have hP : va_P (dC, dI) vwCl (([] : va_W) ++ dt_o0 h0) H := hP
  have hD : va_D (fun q : Nat => s.heap.size ≤ q) (([] : va_W) ++ dt_o0 h0) := hD
  refine W.widen (k := 1) (n := 11) (by decide) (by decide) ?_
  refine lv_dup hx hb dL_law_3 rfl ?_
  have hPc := hP.sub (ws' := dt_o0 h0) [0] rfl
  have hDc := hD.sub (ws' := dt_o0 h0) [0] (by decide) rfl
  have hKc := hK.sub (tys' := []) [] rfl
  have hFc := va_free (wc := dt_o0 h0) hD hS hA [0] rfl
  refine va_callv (va_runI (As := []) (rest := [.ref h0]) ⟨hx, hb, hml, hown, hts⟩ (m0_init l (dC, dI) h0 H.size) (cwI 0 hts (lw_meth q25) rfl rfl rfl (hts _ q19) (hts _ q23) (hts _ q24) rfl (by decide +kernel) ⟨Nat.le_of_ble_eq_true rfl, Nat.le_of_ble_eq_true rfl⟩) ⟨fun a U g mk q => by obtain ⟨q0, q1, qP, qK, qD⟩ := q; exact ⟨q0, q1, qP, va_K.moved (u := U) (U := U.calling g mk a) (Vm.Alike.refl U.vm) qK, qD⟩, fun U hU hW => ⟨rfl, by rw [hU], by rw [hU]; exact hPc, va_K.moved hW.alike hKc, hDc.weaken (fun _ _ _ _ => trivial)⟩⟩ rfl rfl hl.1 rfl (lv_room (Nat.le_of_ble_eq_true rfl)) dL_law_4 ⟨by decide, by decide⟩) hS (fun q _ h => hFc q h) hFc (fun u t H1 locs ht hvm hw1 hB hz1 hk1 hS => ?_)
  obtain ⟨d, a⟩ := u
  obtain ⟨hP1, hK1, hD1⟩ := hB
  rw [ht] at hP1
  have hK1 := va_K.moved hvm.symm hK1
  obtain ⟨hP, hD⟩ := va_join (wr := ([] : va_W)) (w1 := dt_w0 d h0 a dt_i0) hP hD [0] [] rfl rfl (by decide) (by decide) hk1 hFc hP1 hD1
  have hK := (hK.sub (tys' := []) [] rfl).app hK1
  generalize H1 = H at hP hS ⊢
  have hP : va_P (dC, dI) vwCl (dt_w0 d h0 a dt_i0) H := hP
  have hD : va_D (fun q : Nat => s.heap.size ≤ q) (dt_w0 d h0 a dt_i0) := hD
  have hK : va_K (dC, dI) vwCl [(d, .int)] s := hK
  refine W.widen (k := 10) (n := 155) (by decide) (by decide) ?_
  refine lv_astore_n (lv' := [(1, .ref h0), (0, .ref b)]) hx hb dL_law_7 rfl hl (by decide) rfl (fun ls hl => ?_)
  refine va_new (ci := 1) (fs := [.null, .null, .null, .null, .null, .null, .null, .null, .int 0, .null]) (C := RX1) (T := TX1) (N := 10) hx hb hts in_X1 tyX1 tyX1_ok hown (hts _ q148) (hts _ q149) (hts _ q20) hK hP hD hS hA rfl (fun j hj => by rcases (show j = 0 ∨ j = 1 ∨ j = 2 ∨ j = 3 ∨ j = 4 ∨ j = 5 ∨ j = 6 ∨ j = 7 ∨ j = 8 ∨ j = 9 by omega) with rfl | rfl | rfl | rfl | rfl | rfl | rfl | rfl | rfl | rfl <;> rfl) (by decide) (by decide) dL_law_8 (fun h1 H hP hD hS => ?_)
  have hP : va_P (dC, dI) vwCl (dt_w0 d h0 a dt_i0 ++ dt_o1 h1) H := hP
  have hD : va_D (fun q : Nat => s.heap.size ≤ q) (dt_w0 d h0 a dt_i0 ++ dt_o1 h1) := hD
  refine W.widen (k := 11) (n := 165) (by decide) (by decide) ?_
  refine lv_dup hx hb dL_law_11 rfl ?_
  have hPc := hP.sub (ws' := dt_o1 h1) [10] rfl
  have hDc := hD.sub (ws' := dt_o1 h1) [10] (by decide) rfl
  have hKc := hK.sub (tys' := []) [] rfl
  have hFc := va_free (wc := dt_o1 h1) hD hS hA [10] rfl
  refine va_callv (va_runI (As := []) (rest := [.ref h1]) ⟨hx, hb, hml, hown, hts⟩ (m1_init l (dC, dI) h1 H.size) (cwI 0 hts (lw_meth q152) rfl rfl rfl (hts _ q20) (hts _ q150) (hts _ q151) rfl (by decide +kernel) ⟨Nat.le_of_ble_eq_true rfl, Nat.le_of_ble_eq_true rfl⟩) ⟨fun a U g mk q => by obtain ⟨q0, q1, qP, qK, qD⟩ := q; exact ⟨q0, q1, qP, va_K.moved (u := U) (U := U.calling g mk a) (Vm.Alike.refl U.vm) qK, qD⟩, fun U hU hW => ⟨rfl, by rw [hU], by rw [hU]; exact hPc, va_K.moved hW.alike hKc, hDc.weaken (fun _ _ _ _ => trivial)⟩⟩ rfl rfl hl.1 rfl (lv_room (Nat.le_of_ble_eq_true rfl)) dL_law_12 ⟨by decide, by decide⟩) hS (fun q _ h => hFc q h) hFc (fun u t H1 locs ht hvm hw1 hB hz1 hk1 hS => ?_)
  obtain ⟨d1, dz, a1⟩ := u
  obtain ⟨hP1, hK1, hD1⟩ := hB
  rw [ht] at hP1
  have hK1 := va_K.moved hvm.symm hK1
  obtain ⟨hP, hD⟩ := va_join (wr := dt_w0 d h0 a dt_i0) (w1 := dt_w1 d1 dz h1 a1 dt_i1) hP hD [10] [0, 1, 2, 3, 4, 5, 6, 7, 8, 9] rfl rfl (by decide) (by decide) hk1 hFc hP1 hD1
  have hK := (hK.sub (tys' := [(d, .int)]) [0] rfl).app hK1
  generalize H1 = H at hP hS ⊢
  have hP : va_P (dC, dI) vwCl (dt_w0 d h0 a dt_i0 ++ dt_w1 d1 dz h1 a1 dt_i1) H := hP
  have hD : va_D (fun q : Nat => s.heap.size ≤ q) (dt_w0 d h0 a dt_i0 ++ dt_w1 d1 dz h1 a1 dt_i1) := hD
  have hK : va_K (dC, dI) vwCl [(d, .int), (d1, .int), (dz, .boolean)] s := hK
  refine W.widen (k := 20) (n := 309) (by decide) (by decide) ?_
  refine lv_astore_n (lv' := [(2, .ref h1), (1, .ref h0), (0, .ref b)]) hx hb dL_law_15 rfl hl (by decide) rfl (fun ls hl => ?_)
  refine lv_iconst (v := nI 0) hx hb dL_law_16 (by decide) ?_
  refine lv_istore_n (lv' := [(3, .int (nI 0)), (2, .ref h1), (1, .ref h0), (0, .ref b)]) hx hb dL_law_17 rfl hl (by decide) rfl (fun ls hl => ?_)
  exact law_loop hL C0 ⟨hx, hb, hml, hown, hts, hK, hlocks, hr⟩ (L + 1) 0 dt_i0 dt_i1 H locs (by omega) (by omega) dt_Rel_init ⟨hP, hD, hS, hA⟩ ls (lv_sub hl [3, 2, 1, 0] rfl)
end
section
set_option maxRecDepth 100000
set_option maxHeartbeats 4000000 in
theorem lw_walk (l : Launch) (b : Addr) (xs : List Int32) : MetFree l x (headSpec (Jvm.Cond.code x code maxLocals ret :: tables_1) room_1) (lw_P b xs) (fun _ _ _ _ _ => True) lw_Q := by
  refine MetFree.of_bodyS (code := code) (maxLocals := maxLocals) (ret := ret) (by decide) ?_ ?_
  · intro args s m h hn
    obtain ⟨meth, c, h1, h2, h3, h4, h5, h6, -, -⟩ := Cond.code_spec hn (atoms_spec (ws := Jvm.Cond.code x code maxLocals ret :: tables_1) h _ List.mem_cons_self)
    exact ⟨meth, c, h1, h2, h3, h4, h5, h6⟩
  · intro p e s m args below meth c s₁ B hml0 hP _
    obtain ⟨rfl, hx, hbd, hgv⟩ := hP
    obtain ⟨scr, harrAt, hlist, hof, hsmall⟩ := hx
    obtain ⟨hcb, hkn, -, -⟩ := State.arrayAt?_spec harrAt
    have hown : s.vm.findClass R_law = some m.cls := findClass_of_methodNamed B.named
    have hts0 : ∀ c ∈ (Jvm.Cond.code x code maxLocals ret :: tables_1), c.before #[Value.ref b] s = true := atoms_spec (ws := Jvm.Cond.code x code maxLocals ret :: tables_1) B.pre
    have hts : ∀ w ∈ lw_tbl, w.before #[Value.ref b] s = true := k2_hts_sels lw_privs (fun w hw => hts0 w (List.mem_cons_of_mem _ hw)) lw_privs_ok
    have hml : c.maxLocals = 4 := B.maxLocals_eq (hts0 _ List.mem_cons_self)
    have X₀ : Stand p l e room_1 s m #[Value.ref b] below meth c s₁ [] 0 0 := Stand.of_body B
    have hh0 : s₁.heap = s.heap := by rw [B.state]; rfl
    have hsz : scr.slots.size = xs.length := by rw [← Array.length_toList, hlist, List.length_map]
    have hval : ∀ j : Nat, j < xs.length → scr.slots[j]? = some (.int (xs.getD j 0)) := fun j hj => by
      rw [← Array.getElem?_toList, hlist]
      simp [hj]
    have hbl : b < s.heap.size := (Array.getElem?_eq_some_iff.mp hcb).1
    have hX : va_X b xs.length (fun j => xs.getD j 0) s s.heap := ⟨scr, hcb, hof, hkn, hsz, hval⟩
    have K : W p l e room_1 s m #[Value.ref b] below meth c s₁.heap [] 0 0 (lw_Z below #[Value.ref b] s) (entryFrame m ([Value.ref b] : List Value).toArray 4) := by
      rw [hh0]
      exact whole_start l hbd ⟨B.exec, B.bytes, B.returns, hml, hown, hts, hX, hbl, B.notSynchronized, hgv⟩
    obtain ⟨t, a1, o, b1, b2, b3⟩ := K s₁ rfl X₀
    exact ⟨t, o, a1, b1, b2, b3⟩
theorem lw_pre_spec {args : Array Value} {s : State} (h : (Jvm.Cond.and given_1 narrow_1).before args s = true) (hr : rest_1_c.before args s = true) : ∃ (b : Addr) (xs : List Int32), lw_P b xs args s := by
  have hs := flat_of_before _ h
  have hq := flat_of_before _ hr
  have hc : (Cond.count 1).before args s = true := hs _ (by decide +kernel)
  have harr : (Cond.arrayOf (.arg 0) .int).before args s = true := hs _ (by decide +kernel)
  have hle : (Cond.le (.length (.arg 0)) (.int 256)).before args s = true := hs _ (by decide +kernel)
  have hlen : (Cond.isInt (.length (.arg 0))).before args s = true := hq _ (by decide +kernel)
  have hall : (Cond.all (.arg 0) (.isInt (.elem (.arg 0) (.index 0)))).before args s = true := hq _ (by decide +kernel)
  obtain ⟨b, xs, hb, hx⟩ := State.ints_of_pre rfl harr hlen hall
  have hsm : xs.length < 2 ^ 31 := hx.choose_spec.2.2.2
  have hev : (Term.length (.arg 0)).eval args s none [] s = some (.int xs.length.toInt32) := hx.length_eval hb
  have hv := Cond.le_ints hev (show (Term.int 256).eval args s none [] s = some (.int 256) from rfl)
  have hd : xs.length.toInt32 ≤ 256 := by
    simpa [Cond.before, Cond.holds, hv] using hle
  have hN : xs.length ≤ 256 := (Int32.ofNat_le_ofNat hsm (by decide)).mp (show Int32.ofNat xs.length ≤ Int32.ofNat 256 from hd)
  exact ⟨b, xs, Cond.one_arg hc (show args[0]? = some (.ref b) from hb), hx, hN, h⟩
theorem lw_comes (l : Launch) : Comes l x (Jvm.Cond.code x code maxLocals ret :: tables_1) room_1 (fun tb e args s => Calls_1 tb e args s ∧ rest_1 tb e args s ∧ Pre_1 tb e args s)
    (fun _ _ args s o t => lw_Q args s o t) := by
  intro p e ha hc hk s m args below hf hfit hheap happ hpre
  obtain ⟨b, xs, hP⟩ := lw_pre_spec hpre.2.2 hpre.2.1
  obtain ⟨k, o, h1, h2, h3, hQ⟩ := lw_walk l b xs p e ha hc hk s m args below hf ((Spec.applies_iff_loose hf).mp happ).1 hP trivial
  exact ⟨k, o, h1, h2, h3, hQ⟩
theorem lw_frame {s t : State} {o : Outcome} {args : Array Value} (h : Framed s o t [] 600000 7290000) :
    Framed s o t (fieldLocs frame_1_writes args s ++ arrayLocs frame_1_arrays args s ++ staticLocs frame_1_statics s) 600000 7290000 := h
theorem lw_limb (L : Cond) (hL : ∀ (args : Array Value) (s t : State), L.after args s (.returned (some (.int 1))) t = true) :
    ArmFor flags0 classFile x code maxLocals ret World_1 tables_1 room_1 Calls_1 rest_1 Pre_1
      (fun tb e a s o t => postC L tb e a s o t ∧ Framed s o t (fieldLocs frame_1_writes a s ++ arrayLocs frame_1_arrays a s ++ staticLocs frame_1_statics s) 600000 7290000) := by
  intro l _ _ _ p e ha hc hk s m args below hf hfit hheap happ hpre
  obtain ⟨k, o, h1, h2, h3, rfl, hF⟩ := lw_comes l p e ha hc hk s m args below hf hfit hheap happ hpre
  exact ⟨k, _, h1, h2, h3, hL args s _, lw_frame hF⟩
theorem i_vc : Claimed_1_1 ∧ Claimed_1_2 := ⟨lw_limb limb_1_1 (fun args s t => by simp [limb_1_1, Cond.after, Cond.holds, Cond.value]), lw_limb limb_1_2 (fun args s t => Cond.after_iff.mpr (by
  first | (rw [show limb_1_2 = Cond.eq .result (.int 1) from rfl, Cond.eq_ints (x := 1) (y := 1) rfl rfl]; simp; done) | (simp [limb_1_2, Cond.value, Term.eval]; done)))⟩
end

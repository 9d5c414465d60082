/-! the lambdas' classes: the forwarder of each -/
set_option maxRecDepth 100000
section LAM
def lDc (k : Nat) : ClassFile := ((gSh k).file "BombFamilies").getD { minorVersion := 0, majorVersion := 0, constantPool := #[], accessFlags := 0, thisClass := 0, superClass := 0, interfaces := #[], fields := #[], methods := #[], attributes := #[] }
def lFw (k : Nat) : Method := ((layoutMethods (lDc k)).bind (·[1]?)).getD default
def lB : ByteArray := ⟨#[0x2b, 0xb8, 0x00, 0x11, 0xb1]⟩
theorem lB0 : decode lB 0 = .ok (.aload_n 1, 1) := by decide +kernel
theorem lB1 : decode lB 1 = .ok (.invokestatic 17, 3) := by decide +kernel
theorem lB4 : decode lB 4 = .ok (.return_, 1) := by decide +kernel
theorem l_some : (List.range 8).all (fun k => ((gSh k).file "BombFamilies").isSome && ((layoutMethods (lDc k)).bind (·[1]?)).isSome) = true := by decide +kernel
theorem l_code : (List.range 8).all (fun k => decide (((lFw k).code.map fun c => (c.code.data, c.maxLocals)) = some (lB.data, 2))) = true := by decide +kernel
theorem l_flag : (List.range 8).all (fun k => decide (((lFw k).accessFlags, (lFw k).name, (lFw k).sig.returnType) = (0x0001, "read", none))) = true := by decide +kernel
theorem l_17 : (List.range 8).all (fun k => decide ((lDc k).constantPool[17]? = some (.methodref 14 16) ∧ (lDc k).constantPool.className? 14 = some "BombFamilies" ∧ (lDc k).constantPool.nameAndType? 16 = some (gNms.getD k "", "(LBombFamilies$Scope;)V"))) = true := by decide +kernel
theorem l_14 : (List.range 8).all (fun k => decide ((lDc k).constantPool[14]? = some (.class_ 13) ∧ (lDc k).constantPool.string? 13 = some "BombFamilies" ∧ 14 ≠ (lDc k).thisClass)) = true := by decide +kernel
end LAM

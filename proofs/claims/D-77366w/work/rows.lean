section
theorem zz_trivial : True := trivial
end
section
theorem yy_trivial : True := trivial
end
